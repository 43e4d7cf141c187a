section
/-- an array of which six places are known -/
def rx_6 (a b c d e f : Int32) : Nat → Int32 := fun j => if j = 0 then a else if j = 1 then b else if j = 2 then c else if j = 3 then d else if j = 4 then e else if j = 5 then f else 0
theorem rx_in {i : Int32} {n : Nat} (h : ¬ (i < 0 ∨ n ≤ i.toNatClampNeg)) : vp_in i n := h
theorem rx_inE {i i' : Int32} {n : Nat} (e : i = i') (h : vp_in i' n) : vp_in i n := by
  rw [e]
  exact h
theorem rx_in6_0 : vp_in 0 6 := rx_in (by decide +kernel)
theorem rx_in6_1 : vp_in 1 6 := rx_in (by decide +kernel)
theorem rx_in6_2 : vp_in 2 6 := rx_in (by decide +kernel)
theorem rx_in6_3 : vp_in 3 6 := rx_in (by decide +kernel)
theorem rx_in6_4 : vp_in 4 6 := rx_in (by decide +kernel)
theorem rx_in6_5 : vp_in 5 6 := rx_in (by decide +kernel)
theorem rx_in4_0 : vp_in 0 4 := rx_in (by decide +kernel)
theorem rx_in4_1 : vp_in 1 4 := rx_in (by decide +kernel)
theorem rx_in4_2 : vp_in 2 4 := rx_in (by decide +kernel)
theorem rx_in4_3 : vp_in 3 4 := rx_in (by decide +kernel)
theorem rx_in16_0 : vp_in 0 16 := rx_in (by decide +kernel)
theorem rx_in16_1 : vp_in 1 16 := rx_in (by decide +kernel)
theorem rx_in16_2 : vp_in 2 16 := rx_in (by decide +kernel)
theorem rx_in16_3 : vp_in 3 16 := rx_in (by decide +kernel)
theorem rx_and7 (x : Int32) : vp_in (x &&& 7) 8 := pk_andIn x 3 (by decide) (by decide)
theorem rx_gc {c : Nat → Int32} {i i' : Int32} (h : i = i') : c i.toNatClampNeg = c i'.toNatClampNeg := by
  rw [h]
theorem rx_uc {c : Nat → Int32} {i i' v v' : Int32} (h : i = i') (hv : v = v') : upd c i.toNatClampNeg v = upd c i'.toNatClampNeg v' := by
  rw [h, hv]
theorem rx_c0 : (0 : Int32).toNatClampNeg = 0 := by decide +kernel
theorem rx_g0 {a b c d e f i : Int32} (h : i = 0) : rx_6 a b c d e f i.toNatClampNeg = a := by
  rw [h, rx_c0]
  rfl
theorem rx_u0 {a b c d e f i v v' : Int32} (h : i = 0) (hv : v = v') : upd (rx_6 a b c d e f) i.toNatClampNeg v = rx_6 v' b c d e f := by
  rw [h, rx_c0, hv]
  funext j
  unfold upd rx_6
  by_cases q : j = 0
  · rw [q]
    rfl
  · simp only [if_neg q]
theorem rx_c1 : (1 : Int32).toNatClampNeg = 1 := by decide +kernel
theorem rx_g1 {a b c d e f i : Int32} (h : i = 1) : rx_6 a b c d e f i.toNatClampNeg = b := by
  rw [h, rx_c1]
  rfl
theorem rx_u1 {a b c d e f i v v' : Int32} (h : i = 1) (hv : v = v') : upd (rx_6 a b c d e f) i.toNatClampNeg v = rx_6 a v' c d e f := by
  rw [h, rx_c1, hv]
  funext j
  unfold upd rx_6
  by_cases q : j = 1
  · rw [q]
    rfl
  · simp only [if_neg q]
theorem rx_c2 : (2 : Int32).toNatClampNeg = 2 := by decide +kernel
theorem rx_g2 {a b c d e f i : Int32} (h : i = 2) : rx_6 a b c d e f i.toNatClampNeg = c := by
  rw [h, rx_c2]
  rfl
theorem rx_u2 {a b c d e f i v v' : Int32} (h : i = 2) (hv : v = v') : upd (rx_6 a b c d e f) i.toNatClampNeg v = rx_6 a b v' d e f := by
  rw [h, rx_c2, hv]
  funext j
  unfold upd rx_6
  by_cases q : j = 2
  · rw [q]
    rfl
  · simp only [if_neg q]
theorem rx_c3 : (3 : Int32).toNatClampNeg = 3 := by decide +kernel
theorem rx_g3 {a b c d e f i : Int32} (h : i = 3) : rx_6 a b c d e f i.toNatClampNeg = d := by
  rw [h, rx_c3]
  rfl
theorem rx_u3 {a b c d e f i v v' : Int32} (h : i = 3) (hv : v = v') : upd (rx_6 a b c d e f) i.toNatClampNeg v = rx_6 a b c v' e f := by
  rw [h, rx_c3, hv]
  funext j
  unfold upd rx_6
  by_cases q : j = 3
  · rw [q]
    rfl
  · simp only [if_neg q]
theorem rx_c4 : (4 : Int32).toNatClampNeg = 4 := by decide +kernel
theorem rx_g4 {a b c d e f i : Int32} (h : i = 4) : rx_6 a b c d e f i.toNatClampNeg = e := by
  rw [h, rx_c4]
  rfl
theorem rx_u4 {a b c d e f i v v' : Int32} (h : i = 4) (hv : v = v') : upd (rx_6 a b c d e f) i.toNatClampNeg v = rx_6 a b c d v' f := by
  rw [h, rx_c4, hv]
  funext j
  unfold upd rx_6
  by_cases q : j = 4
  · rw [q]
    rfl
  · simp only [if_neg q]
theorem rx_c5 : (5 : Int32).toNatClampNeg = 5 := by decide +kernel
theorem rx_g5 {a b c d e f i : Int32} (h : i = 5) : rx_6 a b c d e f i.toNatClampNeg = f := by
  rw [h, rx_c5]
  rfl
theorem rx_u5 {a b c d e f i v v' : Int32} (h : i = 5) (hv : v = v') : upd (rx_6 a b c d e f) i.toNatClampNeg v = rx_6 a b c d e v' := by
  rw [h, rx_c5, hv]
  funext j
  unfold upd rx_6
  by_cases q : j = 5
  · rw [q]
    rfl
  · simp only [if_neg q]
theorem rx_z : rx_6 0 0 0 0 0 0 = fun _ => 0 := by
  funext j
  unfold rx_6
  repeat' split
  all_goals rfl
theorem rx_194 {post : Int32 → St2 → Prop} {x1 x2 z z' f0_size f0_at f0_state f0_count f0_guessBits f0_fetchAt f0_fetching f0_first f0_under : Int32} {a1 a2 a3 a4 a5 a6 a7 a8 a9 a10 a11 a12 a13 a14 a15 a16 a17 a18 a19 : Nat → Int32} (e : z = z') (h : wX_retire_194 post x1 x2 z' f0_size f0_at f0_state f0_count f0_guessBits f0_fetchAt f0_fetching f0_first f0_under a1 a2 a3 a4 a5 a6 a7 a8 a9 a10 a11 a12 a13 a14 a15 a16 a17 a18 a19) : wX_retire_194 post x1 x2 z f0_size f0_at f0_state f0_count f0_guessBits f0_fetchAt f0_fetching f0_first f0_under a1 a2 a3 a4 a5 a6 a7 a8 a9 a10 a11 a12 a13 a14 a15 a16 a17 a18 a19 := by
  rw [e]
  exact h
theorem rx_init {post : St2 → Prop} (h : post (0, 0, 0, 0, 0, 0, 0, 0, 0, (rx_6 0 0 0 0 0 0), (rx_6 0 0 0 0 0 0), (rx_6 0 0 0 0 0 0), (rx_6 0 0 0 0 0 0), (fun _ => 0), (rx_6 0 0 0 0 0 0), (rx_6 0 0 0 0 0 0), (rx_6 0 0 0 0 0 0), (rx_6 0 0 0 0 0 0), (rx_6 0 0 0 0 0 0), (rx_6 0 0 0 0 0 0), (rx_6 0 0 0 0 0 0), (rx_6 0 0 0 0 0 0), (rx_6 0 0 0 0 0 0), (rx_6 0 0 0 0 0 0), (rx_6 0 0 0 0 0 0), (rx_6 0 0 0 0 0 0), (rx_6 0 0 0 0 0 0), (rx_6 0 0 0 0 0 0))) : wpX_init post 97 1540 (0, 0, 0, 0, 0, 0, 0, 0, 0) := by
  rw [rx_z] at h
  exact ⟨by decide, by decide, by decide, by decide, by decide, by decide, by decide, by decide, by decide, by decide, by decide, by decide, by decide, by decide, by decide, by decide, by decide, by decide, by decide, by decide, by decide, by decide, by decide, by decide, by decide, by decide, by decide, by decide, by decide, by decide, by decide, by decide, by decide, by decide, by decide, by decide, by decide, by decide, h⟩
end
section
theorem rx_ret_1 {post : Int32 → St2 → Prop} {f0_size f0_at f0_state f0_count f0_guessBits f0_fetchAt f0_fetching f0_first : Int32} {a1 a2 a3 a4 a5 a6 a7 a8 a9 a10 a11 a12 a13 a14 a15 a16 a17 a18 a19 : Nat → Int32} (hp : post 0 (f0_size, f0_at, f0_state, f0_count, f0_guessBits, f0_fetchAt, f0_fetching, f0_first, 0, a1, a2, a3, a4, a5, a6, a7, a8, a9, a10, a11, a12, a13, a14, a15, a16, a17, a18, a19)) :
    wpX_retire post (f0_size, f0_at, f0_state, f0_count, f0_guessBits, f0_fetchAt, f0_fetching, f0_first, 0, a1, a2, a3, a4, a5, a6, a7, a8, a9, a10, a11, a12, a13, a14, a15, a16, a17, a18, a19) := by
  refine br_t (by decide +kernel) ?_
  exact hp
theorem rx_ret_2 {post : Int32 → St2 → Prop} {f0_size f0_at f0_state f0_count f0_guessBits f0_fetchAt f0_fetching : Int32} {a1 a2 a3 a4 a5 a6 a7 a9 a10 a11 a12 a13 a14 a15 a16 a17 a18 a19 : Nat → Int32} (hp : post 0 (f0_size, f0_at, f0_state, f0_count, f0_guessBits, f0_fetchAt, f0_fetching, 0, 1, a1, a2, a3, a4, a5, a6, a7, (rx_6 0 0 0 0 0 0), a9, a10, a11, a12, a13, a14, a15, a16, a17, a18, a19)) :
    wpX_retire post (f0_size, f0_at, f0_state, f0_count, f0_guessBits, f0_fetchAt, f0_fetching, 0, 1, a1, a2, a3, a4, a5, a6, a7, (rx_6 0 0 0 0 0 0), a9, a10, a11, a12, a13, a14, a15, a16, a17, a18, a19) := by
  refine br_f (by decide +kernel) ?_
  refine ⟨rx_in6_0, ?_⟩
  refine br_f (by decide +kernel) ?_
  exact hp
theorem rx_ret_3 {post : Int32 → St2 → Prop} {f0_size f0_at f0_state f0_count f0_guessBits f0_fetchAt f0_fetching : Int32} {a1 a2 a3 a4 a5 a6 a7 a9 a10 a11 a12 a13 a14 a15 a16 a17 a18 a19 : Nat → Int32} (hp : post 0 (f0_size, f0_at, f0_state, f0_count, f0_guessBits, f0_fetchAt, f0_fetching, 0, 2, a1, a2, a3, a4, a5, a6, a7, (rx_6 1 0 0 0 0 0), a9, a10, a11, a12, a13, a14, a15, a16, a17, a18, a19)) :
    wpX_retire post (f0_size, f0_at, f0_state, f0_count, f0_guessBits, f0_fetchAt, f0_fetching, 0, 2, a1, a2, a3, a4, a5, a6, a7, (rx_6 1 0 0 0 0 0), a9, a10, a11, a12, a13, a14, a15, a16, a17, a18, a19) := by
  refine br_f (by decide +kernel) ?_
  refine ⟨rx_in6_0, ?_⟩
  refine br_f (by decide +kernel) ?_
  exact hp
theorem rx_ret_4 {post : Int32 → St2 → Prop} {f0_size f0_at f0_state f0_guessBits f0_fetchAt f0_fetching d4_0 d4_1 d4_2 d4_3 d4_4 d4_5 d10_0 d10_1 d10_2 d10_3 d10_4 d10_5 : Int32} {a1 a2 a3 a5 a9 a11 a13 a15 a16 a17 a18 : Nat → Int32} (hp : post 1 (f0_size, 1, f0_state, 1, f0_guessBits, f0_fetchAt, f0_fetching, 1, 2, a1, a2, a3, (rx_6 d4_0 d4_1 d10_0 d4_3 d4_4 d4_5), a5, (rx_6 1 5 4 0 0 0), (rx_6 0 1 2 0 0 0), (rx_6 2 1 0 0 0 0), a9, (rx_6 d10_0 d10_1 d10_2 d10_3 d10_4 d10_5), a11, (rx_6 0 0 0 0 0 0), a13, (rx_6 2 0 0 0 0 0), a15, a16, a17, a18, (rx_6 2 (-1) (-1) (-1) 0 0))) :
    wpX_retire post (f0_size, f0_at, f0_state, 0, f0_guessBits, f0_fetchAt, f0_fetching, 0, 3, a1, a2, a3, (rx_6 d4_0 d4_1 d4_2 d4_3 d4_4 d4_5), a5, (rx_6 1 5 4 0 0 0), (rx_6 0 1 2 0 0 0), (rx_6 2 1 0 0 0 0), a9, (rx_6 d10_0 d10_1 d10_2 d10_3 d10_4 d10_5), a11, (rx_6 0 0 0 0 0 0), a13, (rx_6 2 0 0 0 0 0), a15, a16, a17, a18, (rx_6 2 (-1) 0 (-1) 0 0)) := by
  refine br_f (by decide +kernel) ?_
  refine ⟨rx_in6_0, ?_⟩
  refine br_t (by decide +kernel) ?_
  refine ⟨rx_in6_0, ?_⟩
  refine br_t (by decide +kernel) ?_
  refine ⟨rx_in6_0, ?_⟩
  refine nm_r (e' := (1 : Int32)) (by decide +kernel) ?_
  refine nm_r (e' := (1 : Int32)) (by decide +kernel) ?_
  refine ⟨(by decide +kernel), ?_⟩
  refine nm_r (e' := (1 : Int32)) (by decide +kernel) ?_
  refine nm_r (e' := (2 : Int32)) (by decide +kernel) ?_
  refine br_f (by decide +kernel) ?_
  refine ⟨rx_in6_0, ?_⟩
  refine ⟨rx_in6_0, ?_⟩
  refine ⟨(rx_in (by decide +kernel)), ?_⟩
  refine nm_r (e' := (rx_6 d4_0 d4_1 d10_0 d4_3 d4_4 d4_5)) (rx_u2 (by decide +kernel) (rx_g0 rfl)) ?_
  refine ⟨rx_in6_0, ?_⟩
  refine ⟨(rx_in (by decide +kernel)), ?_⟩
  refine br_t (by decide +kernel) ?_
  refine ⟨rx_in6_0, ?_⟩
  refine ⟨(rx_in (by decide +kernel)), ?_⟩
  refine nm_r (e' := (rx_6 2 (-1) (-1) (-1) 0 0)) (rx_u2 (by decide +kernel) rfl) ?_
  refine br_f (by decide +kernel) ?_
  refine br_t (by decide +kernel) ?_
  refine ⟨rx_in6_0, ?_⟩
  refine rx_194 (z' := 1) (by decide +kernel) ?_
  refine br_f (by decide +kernel) ?_
  exact hp
theorem rx_ret_5 {post : Int32 → St2 → Prop} {f0_size f0_at f0_state f0_guessBits f0_fetchAt f0_fetching d11_0 d11_1 d11_2 d11_3 d11_4 d11_5 d17_0 d17_1 d17_2 d17_3 d17_4 d17_5 : Int32} {a1 a2 a3 a4 a5 a9 a10 a13 a14 a15 a16 a18 a19 : Nat → Int32} (h1 : vp_in d11_1 8) (hp : post 1 (f0_size, 2, f0_state, 2, f0_guessBits, f0_fetchAt, f0_fetching, 2, 2, a1, a2, a3, a4, (upd a5 d11_1.toNatClampNeg d17_1), (rx_6 1 5 4 9 0 0), (rx_6 0 1 2 3 0 0), (rx_6 2 2 0 0 0 0), a9, a10, (rx_6 d11_0 d11_1 d11_2 d11_3 d11_4 d11_5), (rx_6 0 0 0 0 0 0), a13, a14, a15, a16, (rx_6 d17_0 d17_1 d17_2 d17_3 d17_4 d17_5), a18, a19)) :
    wpX_retire post (f0_size, f0_at, f0_state, 1, f0_guessBits, f0_fetchAt, f0_fetching, 1, 3, a1, a2, a3, a4, a5, (rx_6 1 5 4 9 0 0), (rx_6 0 1 2 3 0 0), (rx_6 2 2 0 0 0 0), a9, a10, (rx_6 d11_0 d11_1 d11_2 d11_3 d11_4 d11_5), (rx_6 0 0 0 0 0 0), a13, a14, a15, a16, (rx_6 d17_0 d17_1 d17_2 d17_3 d17_4 d17_5), a18, a19) := by
  refine br_f (by decide +kernel) ?_
  refine ⟨rx_in6_1, ?_⟩
  refine br_t (by decide +kernel) ?_
  refine ⟨rx_in6_1, ?_⟩
  refine br_t (by decide +kernel) ?_
  refine ⟨rx_in6_1, ?_⟩
  refine nm_r (e' := (5 : Int32)) (by decide +kernel) ?_
  refine nm_r (e' := (2 : Int32)) (by decide +kernel) ?_
  refine ⟨(by decide +kernel), ?_⟩
  refine nm_r (e' := (2 : Int32)) (by decide +kernel) ?_
  refine nm_r (e' := (2 : Int32)) (by decide +kernel) ?_
  refine br_t (by decide +kernel) ?_
  refine br_t (by decide +kernel) ?_
  refine ⟨rx_in6_1, ?_⟩
  refine ⟨rx_in6_1, ?_⟩
  refine ⟨(rx_inE (rx_g1 rfl) h1), ?_⟩
  refine nm_r (e' := (upd a5 d11_1.toNatClampNeg d17_1)) (rx_uc (rx_g1 rfl) (rx_g1 rfl)) ?_
  refine br_f (by decide +kernel) ?_
  refine br_t (by decide +kernel) ?_
  refine ⟨rx_in6_1, ?_⟩
  refine rx_194 (z' := 2) (by decide +kernel) ?_
  refine br_f (by decide +kernel) ?_
  exact hp
theorem rx_ret_6 {post : Int32 → St2 → Prop} {f0_size f0_at f0_state f0_count f0_guessBits f0_fetchAt f0_fetching : Int32} {a1 a2 a3 a4 a5 a6 a7 a9 a10 a11 a12 a13 a14 a15 a16 a17 a18 a19 : Nat → Int32} (hp : post 0 (f0_size, f0_at, f0_state, f0_count, f0_guessBits, f0_fetchAt, f0_fetching, 2, 2, a1, a2, a3, a4, a5, a6, a7, (rx_6 2 2 1 1 0 0), a9, a10, a11, a12, a13, a14, a15, a16, a17, a18, a19)) :
    wpX_retire post (f0_size, f0_at, f0_state, f0_count, f0_guessBits, f0_fetchAt, f0_fetching, 2, 2, a1, a2, a3, a4, a5, a6, a7, (rx_6 2 2 1 1 0 0), a9, a10, a11, a12, a13, a14, a15, a16, a17, a18, a19) := by
  refine br_f (by decide +kernel) ?_
  refine ⟨rx_in6_2, ?_⟩
  refine br_f (by decide +kernel) ?_
  exact hp
theorem rx_ret_7 {post : Int32 → St2 → Prop} {f0_size f0_at f0_state f0_count f0_guessBits f0_fetchAt f0_fetching : Int32} {a1 a2 a3 a4 a5 a6 a7 a9 a10 a11 a12 a13 a14 a15 a16 a17 a18 a19 : Nat → Int32} (hp : post 0 (f0_size, f0_at, f0_state, f0_count, f0_guessBits, f0_fetchAt, f0_fetching, 2, 2, a1, a2, a3, a4, a5, a6, a7, (rx_6 2 2 1 2 0 0), a9, a10, a11, a12, a13, a14, a15, a16, a17, a18, a19)) :
    wpX_retire post (f0_size, f0_at, f0_state, f0_count, f0_guessBits, f0_fetchAt, f0_fetching, 2, 2, a1, a2, a3, a4, a5, a6, a7, (rx_6 2 2 1 2 0 0), a9, a10, a11, a12, a13, a14, a15, a16, a17, a18, a19) := by
  refine br_f (by decide +kernel) ?_
  refine ⟨rx_in6_2, ?_⟩
  refine br_f (by decide +kernel) ?_
  exact hp
theorem rx_ret_8 {post : Int32 → St2 → Prop} {f0_size f0_at f0_state f0_guessBits f0_fetchAt f0_fetching d4_0 d4_1 d4_2 d4_3 d4_4 d4_5 d10_0 d10_1 d10_2 d10_3 d10_4 d10_5 : Int32} {a1 a2 a3 a5 a9 a11 a13 a15 a16 a17 a18 : Nat → Int32} (hp : post 1 (f0_size, 3, f0_state, 3, f0_guessBits, f0_fetchAt, f0_fetching, 3, 1, a1, a2, a3, (rx_6 d10_2 d4_1 d4_2 d4_3 d4_4 d4_5), a5, (rx_6 1 5 4 9 0 0), (rx_6 0 1 2 3 0 0), (rx_6 2 2 2 2 0 0), a9, (rx_6 d10_0 d10_1 d10_2 d10_3 d10_4 d10_5), a11, (rx_6 0 0 0 1 0 0), a13, (rx_6 2 0 0 0 0 0), a15, a16, a17, a18, (rx_6 (-1) (-1) (-1) (-1) 0 0))) :
    wpX_retire post (f0_size, f0_at, f0_state, 2, f0_guessBits, f0_fetchAt, f0_fetching, 2, 2, a1, a2, a3, (rx_6 d4_0 d4_1 d4_2 d4_3 d4_4 d4_5), a5, (rx_6 1 5 4 9 0 0), (rx_6 0 1 2 3 0 0), (rx_6 2 2 2 2 0 0), a9, (rx_6 d10_0 d10_1 d10_2 d10_3 d10_4 d10_5), a11, (rx_6 0 0 0 1 0 0), a13, (rx_6 2 0 0 0 0 0), a15, a16, a17, a18, (rx_6 2 (-1) (-1) (-1) 0 0)) := by
  refine br_f (by decide +kernel) ?_
  refine ⟨rx_in6_2, ?_⟩
  refine br_t (by decide +kernel) ?_
  refine ⟨rx_in6_2, ?_⟩
  refine br_t (by decide +kernel) ?_
  refine ⟨rx_in6_2, ?_⟩
  refine nm_r (e' := (4 : Int32)) (by decide +kernel) ?_
  refine nm_r (e' := (3 : Int32)) (by decide +kernel) ?_
  refine ⟨(by decide +kernel), ?_⟩
  refine nm_r (e' := (3 : Int32)) (by decide +kernel) ?_
  refine nm_r (e' := (1 : Int32)) (by decide +kernel) ?_
  refine br_f (by decide +kernel) ?_
  refine ⟨rx_in6_2, ?_⟩
  refine ⟨rx_in6_2, ?_⟩
  refine ⟨(rx_in (by decide +kernel)), ?_⟩
  refine nm_r (e' := (rx_6 d10_2 d4_1 d4_2 d4_3 d4_4 d4_5)) (rx_u0 (by decide +kernel) (rx_g2 rfl)) ?_
  refine ⟨rx_in6_2, ?_⟩
  refine ⟨(rx_in (by decide +kernel)), ?_⟩
  refine br_t (by decide +kernel) ?_
  refine ⟨rx_in6_2, ?_⟩
  refine ⟨(rx_in (by decide +kernel)), ?_⟩
  refine nm_r (e' := (rx_6 (-1) (-1) (-1) (-1) 0 0)) (rx_u0 (by decide +kernel) rfl) ?_
  refine br_f (by decide +kernel) ?_
  refine br_t (by decide +kernel) ?_
  refine ⟨rx_in6_2, ?_⟩
  refine rx_194 (z' := 3) (by decide +kernel) ?_
  refine br_f (by decide +kernel) ?_
  exact hp
theorem rx_ret_9 {post : Int32 → St2 → Prop} {f0_size f0_at f0_state f0_count f0_guessBits f0_fetchAt f0_fetching : Int32} {a1 a2 a3 a4 a5 a6 a7 a9 a10 a11 a13 a14 a15 a16 a17 a18 a19 : Nat → Int32} (hp : post 0 (f0_size, f0_at, 3, f0_count, f0_guessBits, f0_fetchAt, f0_fetching, 3, 1, a1, a2, a3, a4, a5, a6, a7, (rx_6 2 2 2 2 0 0), a9, a10, a11, (rx_6 0 0 0 1 0 0), a13, a14, a15, a16, a17, a18, a19)) :
    wpX_retire post (f0_size, f0_at, f0_state, f0_count, f0_guessBits, f0_fetchAt, f0_fetching, 3, 1, a1, a2, a3, a4, a5, a6, a7, (rx_6 2 2 2 2 0 0), a9, a10, a11, (rx_6 0 0 0 1 0 0), a13, a14, a15, a16, a17, a18, a19) := by
  refine br_f (by decide +kernel) ?_
  refine ⟨rx_in6_3, ?_⟩
  refine br_t (by decide +kernel) ?_
  refine ⟨rx_in6_3, ?_⟩
  refine br_f (by decide +kernel) ?_
  exact hp
theorem rx_ret_10 {post : Int32 → St2 → Prop} {f0_size f0_at f0_state f0_count f0_guessBits f0_fetchAt f0_fetching : Int32} {a1 a2 a3 a4 a5 a6 a7 a9 a10 a11 a13 a14 a15 a16 a17 a18 a19 : Nat → Int32} (hp : post 0 (f0_size, f0_at, 3, f0_count, f0_guessBits, f0_fetchAt, f0_fetching, 1, 3, a1, a2, a3, a4, a5, a6, a7, (rx_6 2 2 0 0 0 0), a9, a10, a11, (rx_6 0 1 0 0 0 0), a13, a14, a15, a16, a17, a18, a19)) :
    wpX_retire post (f0_size, f0_at, f0_state, f0_count, f0_guessBits, f0_fetchAt, f0_fetching, 1, 3, a1, a2, a3, a4, a5, a6, a7, (rx_6 2 2 0 0 0 0), a9, a10, a11, (rx_6 0 1 0 0 0 0), a13, a14, a15, a16, a17, a18, a19) := by
  refine br_f (by decide +kernel) ?_
  refine ⟨rx_in6_1, ?_⟩
  refine br_t (by decide +kernel) ?_
  refine ⟨rx_in6_1, ?_⟩
  refine br_f (by decide +kernel) ?_
  exact hp
theorem rx_ret_11 {post : Int32 → St2 → Prop} {f0_size f0_at f0_state f0_count f0_guessBits f0_fetchAt f0_fetching : Int32} {a1 a2 a3 a4 a5 a6 a7 a9 a10 a11 a12 a13 a14 a15 a16 a17 a18 a19 : Nat → Int32} (hp : post 0 (f0_size, f0_at, f0_state, f0_count, f0_guessBits, f0_fetchAt, f0_fetching, 0, 3, a1, a2, a3, a4, a5, a6, a7, (rx_6 1 0 0 0 0 0), a9, a10, a11, a12, a13, a14, a15, a16, a17, a18, a19)) :
    wpX_retire post (f0_size, f0_at, f0_state, f0_count, f0_guessBits, f0_fetchAt, f0_fetching, 0, 3, a1, a2, a3, a4, a5, a6, a7, (rx_6 1 0 0 0 0 0), a9, a10, a11, a12, a13, a14, a15, a16, a17, a18, a19) := by
  refine br_f (by decide +kernel) ?_
  refine ⟨rx_in6_0, ?_⟩
  refine br_f (by decide +kernel) ?_
  exact hp
theorem rx_ret_12 {post : Int32 → St2 → Prop} {f0_size f0_at f0_state f0_count f0_guessBits f0_fetchAt f0_fetching : Int32} {a1 a2 a3 a4 a5 a6 a7 a9 a10 a11 a12 a13 a14 a15 a16 a17 a18 a19 : Nat → Int32} (hp : post 0 (f0_size, f0_at, f0_state, f0_count, f0_guessBits, f0_fetchAt, f0_fetching, 0, 4, a1, a2, a3, a4, a5, a6, a7, (rx_6 1 0 0 0 0 0), a9, a10, a11, a12, a13, a14, a15, a16, a17, a18, a19)) :
    wpX_retire post (f0_size, f0_at, f0_state, f0_count, f0_guessBits, f0_fetchAt, f0_fetching, 0, 4, a1, a2, a3, a4, a5, a6, a7, (rx_6 1 0 0 0 0 0), a9, a10, a11, a12, a13, a14, a15, a16, a17, a18, a19) := by
  refine br_f (by decide +kernel) ?_
  refine ⟨rx_in6_0, ?_⟩
  refine br_f (by decide +kernel) ?_
  exact hp
theorem rx_ret_13 {post : Int32 → St2 → Prop} {f0_size f0_at f0_state f0_guessBits f0_fetchAt f0_fetching d4_0 d4_1 d4_2 d4_3 d4_4 d4_5 d10_0 d10_1 d10_2 d10_3 d10_4 d10_5 : Int32} {a1 a2 a3 a5 a9 a11 a13 a15 a16 a17 a18 : Nat → Int32} (hp : post 1 (f0_size, 1, f0_state, 1, f0_guessBits, f0_fetchAt, f0_fetching, 1, 3, a1, a2, a3, (rx_6 d4_0 d4_1 d10_0 d4_3 d4_4 d4_5), a5, (rx_6 2 5 4 9 0 0), (rx_6 0 1 2 3 0 0), (rx_6 2 1 0 1 0 0), a9, (rx_6 d10_0 d10_1 d10_2 d10_3 d10_4 d10_5), a11, (rx_6 0 0 0 0 0 0), a13, (rx_6 2 0 0 0 0 0), a15, a16, a17, a18, (rx_6 2 (-1) (-1) (-1) 0 0))) :
    wpX_retire post (f0_size, f0_at, f0_state, 0, f0_guessBits, f0_fetchAt, f0_fetching, 0, 4, a1, a2, a3, (rx_6 d4_0 d4_1 d4_2 d4_3 d4_4 d4_5), a5, (rx_6 2 5 4 9 0 0), (rx_6 0 1 2 3 0 0), (rx_6 2 1 0 1 0 0), a9, (rx_6 d10_0 d10_1 d10_2 d10_3 d10_4 d10_5), a11, (rx_6 0 0 0 0 0 0), a13, (rx_6 2 0 0 0 0 0), a15, a16, a17, a18, (rx_6 2 (-1) 0 (-1) 0 0)) := by
  refine br_f (by decide +kernel) ?_
  refine ⟨rx_in6_0, ?_⟩
  refine br_t (by decide +kernel) ?_
  refine ⟨rx_in6_0, ?_⟩
  refine br_t (by decide +kernel) ?_
  refine ⟨rx_in6_0, ?_⟩
  refine nm_r (e' := (2 : Int32)) (by decide +kernel) ?_
  refine nm_r (e' := (1 : Int32)) (by decide +kernel) ?_
  refine ⟨(by decide +kernel), ?_⟩
  refine nm_r (e' := (1 : Int32)) (by decide +kernel) ?_
  refine nm_r (e' := (3 : Int32)) (by decide +kernel) ?_
  refine br_f (by decide +kernel) ?_
  refine ⟨rx_in6_0, ?_⟩
  refine ⟨rx_in6_0, ?_⟩
  refine ⟨(rx_in (by decide +kernel)), ?_⟩
  refine nm_r (e' := (rx_6 d4_0 d4_1 d10_0 d4_3 d4_4 d4_5)) (rx_u2 (by decide +kernel) (rx_g0 rfl)) ?_
  refine ⟨rx_in6_0, ?_⟩
  refine ⟨(rx_in (by decide +kernel)), ?_⟩
  refine br_t (by decide +kernel) ?_
  refine ⟨rx_in6_0, ?_⟩
  refine ⟨(rx_in (by decide +kernel)), ?_⟩
  refine nm_r (e' := (rx_6 2 (-1) (-1) (-1) 0 0)) (rx_u2 (by decide +kernel) rfl) ?_
  refine br_f (by decide +kernel) ?_
  refine br_t (by decide +kernel) ?_
  refine ⟨rx_in6_0, ?_⟩
  refine rx_194 (z' := 1) (by decide +kernel) ?_
  refine br_f (by decide +kernel) ?_
  exact hp
theorem rx_ret_14 {post : Int32 → St2 → Prop} {f0_size f0_at f0_state f0_guessBits f0_fetchAt f0_fetching d11_0 d11_1 d11_2 d11_3 d11_4 d11_5 d17_0 d17_1 d17_2 d17_3 d17_4 d17_5 : Int32} {a1 a2 a3 a4 a5 a9 a10 a13 a14 a15 a16 a18 a19 : Nat → Int32} (h1 : vp_in d11_1 8) (hp : post 1 (f0_size, 2, f0_state, 2, f0_guessBits, f0_fetchAt, f0_fetching, 2, 2, a1, a2, a3, a4, (upd a5 d11_1.toNatClampNeg d17_1), (rx_6 2 5 4 9 0 0), (rx_6 0 1 2 3 0 0), (rx_6 2 2 0 1 0 0), a9, a10, (rx_6 d11_0 d11_1 d11_2 d11_3 d11_4 d11_5), (rx_6 0 0 0 0 0 0), a13, a14, a15, a16, (rx_6 d17_0 d17_1 d17_2 d17_3 d17_4 d17_5), a18, a19)) :
    wpX_retire post (f0_size, f0_at, f0_state, 1, f0_guessBits, f0_fetchAt, f0_fetching, 1, 3, a1, a2, a3, a4, a5, (rx_6 2 5 4 9 0 0), (rx_6 0 1 2 3 0 0), (rx_6 2 2 0 1 0 0), a9, a10, (rx_6 d11_0 d11_1 d11_2 d11_3 d11_4 d11_5), (rx_6 0 0 0 0 0 0), a13, a14, a15, a16, (rx_6 d17_0 d17_1 d17_2 d17_3 d17_4 d17_5), a18, a19) := by
  refine br_f (by decide +kernel) ?_
  refine ⟨rx_in6_1, ?_⟩
  refine br_t (by decide +kernel) ?_
  refine ⟨rx_in6_1, ?_⟩
  refine br_t (by decide +kernel) ?_
  refine ⟨rx_in6_1, ?_⟩
  refine nm_r (e' := (5 : Int32)) (by decide +kernel) ?_
  refine nm_r (e' := (2 : Int32)) (by decide +kernel) ?_
  refine ⟨(by decide +kernel), ?_⟩
  refine nm_r (e' := (2 : Int32)) (by decide +kernel) ?_
  refine nm_r (e' := (2 : Int32)) (by decide +kernel) ?_
  refine br_t (by decide +kernel) ?_
  refine br_t (by decide +kernel) ?_
  refine ⟨rx_in6_1, ?_⟩
  refine ⟨rx_in6_1, ?_⟩
  refine ⟨(rx_inE (rx_g1 rfl) h1), ?_⟩
  refine nm_r (e' := (upd a5 d11_1.toNatClampNeg d17_1)) (rx_uc (rx_g1 rfl) (rx_g1 rfl)) ?_
  refine br_f (by decide +kernel) ?_
  refine br_t (by decide +kernel) ?_
  refine ⟨rx_in6_1, ?_⟩
  refine rx_194 (z' := 2) (by decide +kernel) ?_
  refine br_f (by decide +kernel) ?_
  exact hp
theorem rx_ret_15 {post : Int32 → St2 → Prop} {f0_size f0_at f0_state f0_guessBits f0_fetchAt f0_fetching d4_0 d4_1 d4_2 d4_3 d4_4 d4_5 d10_0 d10_1 d10_2 d10_3 d10_4 d10_5 : Int32} {a1 a2 a3 a5 a9 a11 a13 a15 a16 a17 a18 : Nat → Int32} (hp : post 1 (f0_size, 3, f0_state, 3, f0_guessBits, f0_fetchAt, f0_fetching, 3, 1, a1, a2, a3, (rx_6 d10_2 d4_1 d4_2 d4_3 d4_4 d4_5), a5, (rx_6 2 5 4 9 0 0), (rx_6 0 1 2 3 0 0), (rx_6 2 2 2 2 0 0), a9, (rx_6 d10_0 d10_1 d10_2 d10_3 d10_4 d10_5), a11, (rx_6 0 0 0 1 0 0), a13, (rx_6 2 0 0 0 0 0), a15, a16, a17, a18, (rx_6 (-1) (-1) (-1) (-1) 0 0))) :
    wpX_retire post (f0_size, f0_at, f0_state, 2, f0_guessBits, f0_fetchAt, f0_fetching, 2, 2, a1, a2, a3, (rx_6 d4_0 d4_1 d4_2 d4_3 d4_4 d4_5), a5, (rx_6 2 5 4 9 0 0), (rx_6 0 1 2 3 0 0), (rx_6 2 2 2 2 0 0), a9, (rx_6 d10_0 d10_1 d10_2 d10_3 d10_4 d10_5), a11, (rx_6 0 0 0 1 0 0), a13, (rx_6 2 0 0 0 0 0), a15, a16, a17, a18, (rx_6 2 (-1) (-1) (-1) 0 0)) := by
  refine br_f (by decide +kernel) ?_
  refine ⟨rx_in6_2, ?_⟩
  refine br_t (by decide +kernel) ?_
  refine ⟨rx_in6_2, ?_⟩
  refine br_t (by decide +kernel) ?_
  refine ⟨rx_in6_2, ?_⟩
  refine nm_r (e' := (4 : Int32)) (by decide +kernel) ?_
  refine nm_r (e' := (3 : Int32)) (by decide +kernel) ?_
  refine ⟨(by decide +kernel), ?_⟩
  refine nm_r (e' := (3 : Int32)) (by decide +kernel) ?_
  refine nm_r (e' := (1 : Int32)) (by decide +kernel) ?_
  refine br_f (by decide +kernel) ?_
  refine ⟨rx_in6_2, ?_⟩
  refine ⟨rx_in6_2, ?_⟩
  refine ⟨(rx_in (by decide +kernel)), ?_⟩
  refine nm_r (e' := (rx_6 d10_2 d4_1 d4_2 d4_3 d4_4 d4_5)) (rx_u0 (by decide +kernel) (rx_g2 rfl)) ?_
  refine ⟨rx_in6_2, ?_⟩
  refine ⟨(rx_in (by decide +kernel)), ?_⟩
  refine br_t (by decide +kernel) ?_
  refine ⟨rx_in6_2, ?_⟩
  refine ⟨(rx_in (by decide +kernel)), ?_⟩
  refine nm_r (e' := (rx_6 (-1) (-1) (-1) (-1) 0 0)) (rx_u0 (by decide +kernel) rfl) ?_
  refine br_f (by decide +kernel) ?_
  refine br_t (by decide +kernel) ?_
  refine ⟨rx_in6_2, ?_⟩
  refine rx_194 (z' := 3) (by decide +kernel) ?_
  refine br_f (by decide +kernel) ?_
  exact hp
theorem rx_ret_16 {post : Int32 → St2 → Prop} {f0_size f0_at f0_state f0_count f0_guessBits f0_fetchAt f0_fetching : Int32} {a1 a2 a3 a4 a5 a6 a7 a9 a10 a11 a13 a14 a15 a16 a17 a18 a19 : Nat → Int32} (hp : post 0 (f0_size, f0_at, 3, f0_count, f0_guessBits, f0_fetchAt, f0_fetching, 1, 3, a1, a2, a3, a4, a5, a6, a7, (rx_6 2 2 0 1 0 0), a9, a10, a11, (rx_6 0 1 0 0 0 0), a13, a14, a15, a16, a17, a18, a19)) :
    wpX_retire post (f0_size, f0_at, f0_state, f0_count, f0_guessBits, f0_fetchAt, f0_fetching, 1, 3, a1, a2, a3, a4, a5, a6, a7, (rx_6 2 2 0 1 0 0), a9, a10, a11, (rx_6 0 1 0 0 0 0), a13, a14, a15, a16, a17, a18, a19) := by
  refine br_f (by decide +kernel) ?_
  refine ⟨rx_in6_1, ?_⟩
  refine br_t (by decide +kernel) ?_
  refine ⟨rx_in6_1, ?_⟩
  refine br_f (by decide +kernel) ?_
  exact hp
theorem rx_ret_17 {post : Int32 → St2 → Prop} {f0_size f0_at f0_state f0_count f0_guessBits f0_fetchAt f0_fetching : Int32} {a1 a2 a3 a4 a5 a6 a7 a9 a10 a11 a12 a13 a14 a15 a16 a17 a18 a19 : Nat → Int32} (hp : post 0 (f0_size, f0_at, f0_state, f0_count, f0_guessBits, f0_fetchAt, f0_fetching, 0, 4, a1, a2, a3, a4, a5, a6, a7, (rx_6 1 0 0 1 0 0), a9, a10, a11, a12, a13, a14, a15, a16, a17, a18, a19)) :
    wpX_retire post (f0_size, f0_at, f0_state, f0_count, f0_guessBits, f0_fetchAt, f0_fetching, 0, 4, a1, a2, a3, a4, a5, a6, a7, (rx_6 1 0 0 1 0 0), a9, a10, a11, a12, a13, a14, a15, a16, a17, a18, a19) := by
  refine br_f (by decide +kernel) ?_
  refine ⟨rx_in6_0, ?_⟩
  refine br_f (by decide +kernel) ?_
  exact hp
theorem rx_ret_18 {post : Int32 → St2 → Prop} {f0_size f0_at f0_state f0_count f0_guessBits f0_fetchAt f0_fetching : Int32} {a1 a2 a3 a4 a5 a6 a7 a9 a10 a11 a12 a13 a14 a15 a16 a17 a18 a19 : Nat → Int32} (hp : post 0 (f0_size, f0_at, f0_state, f0_count, f0_guessBits, f0_fetchAt, f0_fetching, 0, 4, a1, a2, a3, a4, a5, a6, a7, (rx_6 1 0 0 2 0 0), a9, a10, a11, a12, a13, a14, a15, a16, a17, a18, a19)) :
    wpX_retire post (f0_size, f0_at, f0_state, f0_count, f0_guessBits, f0_fetchAt, f0_fetching, 0, 4, a1, a2, a3, a4, a5, a6, a7, (rx_6 1 0 0 2 0 0), a9, a10, a11, a12, a13, a14, a15, a16, a17, a18, a19) := by
  refine br_f (by decide +kernel) ?_
  refine ⟨rx_in6_0, ?_⟩
  refine br_f (by decide +kernel) ?_
  exact hp
theorem rx_ret_19 {post : Int32 → St2 → Prop} {f0_size f0_at f0_state f0_count f0_guessBits f0_fetchAt f0_fetching : Int32} {a1 a2 a3 a4 a5 a6 a7 a9 a10 a11 a13 a14 a15 a16 a17 a18 a19 : Nat → Int32} (hp : post 0 (f0_size, f0_at, 3, f0_count, f0_guessBits, f0_fetchAt, f0_fetching, 0, 4, a1, a2, a3, a4, a5, a6, a7, (rx_6 2 1 0 2 0 0), a9, a10, a11, (rx_6 1 0 0 1 0 0), a13, a14, a15, a16, a17, a18, a19)) :
    wpX_retire post (f0_size, f0_at, f0_state, f0_count, f0_guessBits, f0_fetchAt, f0_fetching, 0, 4, a1, a2, a3, a4, a5, a6, a7, (rx_6 2 1 0 2 0 0), a9, a10, a11, (rx_6 1 0 0 1 0 0), a13, a14, a15, a16, a17, a18, a19) := by
  refine br_f (by decide +kernel) ?_
  refine ⟨rx_in6_0, ?_⟩
  refine br_t (by decide +kernel) ?_
  refine ⟨rx_in6_0, ?_⟩
  refine br_f (by decide +kernel) ?_
  exact hp
theorem rx_ret_20 {post : Int32 → St2 → Prop} {f0_size f0_at f0_state f0_guessBits f0_fetchAt f0_fetching d4_0 d4_1 d4_2 d4_3 d4_4 d4_5 d10_0 d10_1 d10_2 d10_3 d10_4 d10_5 : Int32} {a1 a2 a3 a5 a9 a11 a13 a15 a16 a17 a18 : Nat → Int32} (hp : post 1 (f0_size, 1, f0_state, 1, f0_guessBits, f0_fetchAt, f0_fetching, 1, 3, a1, a2, a3, (rx_6 d4_0 d4_1 d10_0 d4_3 d4_4 d4_5), a5, (rx_6 3 5 4 9 0 0), (rx_6 0 1 2 3 0 0), (rx_6 2 1 0 2 0 0), a9, (rx_6 d10_0 d10_1 d10_2 d10_3 d10_4 d10_5), a11, (rx_6 0 0 0 1 0 0), a13, (rx_6 2 0 0 0 0 0), a15, a16, a17, a18, (rx_6 2 (-1) (-1) (-1) 0 0))) :
    wpX_retire post (f0_size, f0_at, f0_state, 0, f0_guessBits, f0_fetchAt, f0_fetching, 0, 4, a1, a2, a3, (rx_6 d4_0 d4_1 d4_2 d4_3 d4_4 d4_5), a5, (rx_6 3 5 4 9 0 0), (rx_6 0 1 2 3 0 0), (rx_6 2 1 0 2 0 0), a9, (rx_6 d10_0 d10_1 d10_2 d10_3 d10_4 d10_5), a11, (rx_6 0 0 0 1 0 0), a13, (rx_6 2 0 0 0 0 0), a15, a16, a17, a18, (rx_6 2 (-1) 0 (-1) 0 0)) := by
  refine br_f (by decide +kernel) ?_
  refine ⟨rx_in6_0, ?_⟩
  refine br_t (by decide +kernel) ?_
  refine ⟨rx_in6_0, ?_⟩
  refine br_t (by decide +kernel) ?_
  refine ⟨rx_in6_0, ?_⟩
  refine nm_r (e' := (3 : Int32)) (by decide +kernel) ?_
  refine nm_r (e' := (1 : Int32)) (by decide +kernel) ?_
  refine ⟨(by decide +kernel), ?_⟩
  refine nm_r (e' := (1 : Int32)) (by decide +kernel) ?_
  refine nm_r (e' := (3 : Int32)) (by decide +kernel) ?_
  refine br_f (by decide +kernel) ?_
  refine ⟨rx_in6_0, ?_⟩
  refine ⟨rx_in6_0, ?_⟩
  refine ⟨(rx_in (by decide +kernel)), ?_⟩
  refine nm_r (e' := (rx_6 d4_0 d4_1 d10_0 d4_3 d4_4 d4_5)) (rx_u2 (by decide +kernel) (rx_g0 rfl)) ?_
  refine ⟨rx_in6_0, ?_⟩
  refine ⟨(rx_in (by decide +kernel)), ?_⟩
  refine br_t (by decide +kernel) ?_
  refine ⟨rx_in6_0, ?_⟩
  refine ⟨(rx_in (by decide +kernel)), ?_⟩
  refine nm_r (e' := (rx_6 2 (-1) (-1) (-1) 0 0)) (rx_u2 (by decide +kernel) rfl) ?_
  refine br_f (by decide +kernel) ?_
  refine br_t (by decide +kernel) ?_
  refine ⟨rx_in6_0, ?_⟩
  refine rx_194 (z' := 1) (by decide +kernel) ?_
  refine br_f (by decide +kernel) ?_
  exact hp
theorem rx_ret_21 {post : Int32 → St2 → Prop} {f0_size f0_at f0_state f0_guessBits f0_fetchAt f0_fetching d11_0 d11_1 d11_2 d11_3 d11_4 d11_5 d17_0 d17_1 d17_2 d17_3 d17_4 d17_5 : Int32} {a1 a2 a3 a4 a5 a9 a10 a13 a14 a15 a16 a18 a19 : Nat → Int32} (h1 : vp_in d11_1 8) (hp : post 1 (f0_size, 2, f0_state, 2, f0_guessBits, f0_fetchAt, f0_fetching, 2, 2, a1, a2, a3, a4, (upd a5 d11_1.toNatClampNeg d17_1), (rx_6 3 5 4 9 0 0), (rx_6 0 1 2 3 0 0), (rx_6 2 2 0 2 0 0), a9, a10, (rx_6 d11_0 d11_1 d11_2 d11_3 d11_4 d11_5), (rx_6 0 0 0 1 0 0), a13, a14, a15, a16, (rx_6 d17_0 d17_1 d17_2 d17_3 d17_4 d17_5), a18, a19)) :
    wpX_retire post (f0_size, f0_at, f0_state, 1, f0_guessBits, f0_fetchAt, f0_fetching, 1, 3, a1, a2, a3, a4, a5, (rx_6 3 5 4 9 0 0), (rx_6 0 1 2 3 0 0), (rx_6 2 2 0 2 0 0), a9, a10, (rx_6 d11_0 d11_1 d11_2 d11_3 d11_4 d11_5), (rx_6 0 0 0 1 0 0), a13, a14, a15, a16, (rx_6 d17_0 d17_1 d17_2 d17_3 d17_4 d17_5), a18, a19) := by
  refine br_f (by decide +kernel) ?_
  refine ⟨rx_in6_1, ?_⟩
  refine br_t (by decide +kernel) ?_
  refine ⟨rx_in6_1, ?_⟩
  refine br_t (by decide +kernel) ?_
  refine ⟨rx_in6_1, ?_⟩
  refine nm_r (e' := (5 : Int32)) (by decide +kernel) ?_
  refine nm_r (e' := (2 : Int32)) (by decide +kernel) ?_
  refine ⟨(by decide +kernel), ?_⟩
  refine nm_r (e' := (2 : Int32)) (by decide +kernel) ?_
  refine nm_r (e' := (2 : Int32)) (by decide +kernel) ?_
  refine br_t (by decide +kernel) ?_
  refine br_t (by decide +kernel) ?_
  refine ⟨rx_in6_1, ?_⟩
  refine ⟨rx_in6_1, ?_⟩
  refine ⟨(rx_inE (rx_g1 rfl) h1), ?_⟩
  refine nm_r (e' := (upd a5 d11_1.toNatClampNeg d17_1)) (rx_uc (rx_g1 rfl) (rx_g1 rfl)) ?_
  refine br_f (by decide +kernel) ?_
  refine br_t (by decide +kernel) ?_
  refine ⟨rx_in6_1, ?_⟩
  refine rx_194 (z' := 2) (by decide +kernel) ?_
  refine br_f (by decide +kernel) ?_
  exact hp
theorem rx_ret_22 {post : Int32 → St2 → Prop} {f0_size f0_at f0_state f0_guessBits f0_fetchAt f0_fetching d4_0 d4_1 d4_2 d4_3 d4_4 d4_5 d10_0 d10_1 d10_2 d10_3 d10_4 d10_5 : Int32} {a1 a2 a3 a5 a9 a11 a13 a15 a16 a17 a18 : Nat → Int32} (hp : post 1 (f0_size, 3, f0_state, 3, f0_guessBits, f0_fetchAt, f0_fetching, 3, 1, a1, a2, a3, (rx_6 d10_2 d4_1 d4_2 d4_3 d4_4 d4_5), a5, (rx_6 3 5 4 9 0 0), (rx_6 0 1 2 3 0 0), (rx_6 2 2 2 2 0 0), a9, (rx_6 d10_0 d10_1 d10_2 d10_3 d10_4 d10_5), a11, (rx_6 0 0 0 1 0 0), a13, (rx_6 2 0 0 0 0 0), a15, a16, a17, a18, (rx_6 (-1) (-1) (-1) (-1) 0 0))) :
    wpX_retire post (f0_size, f0_at, f0_state, 2, f0_guessBits, f0_fetchAt, f0_fetching, 2, 2, a1, a2, a3, (rx_6 d4_0 d4_1 d4_2 d4_3 d4_4 d4_5), a5, (rx_6 3 5 4 9 0 0), (rx_6 0 1 2 3 0 0), (rx_6 2 2 2 2 0 0), a9, (rx_6 d10_0 d10_1 d10_2 d10_3 d10_4 d10_5), a11, (rx_6 0 0 0 1 0 0), a13, (rx_6 2 0 0 0 0 0), a15, a16, a17, a18, (rx_6 2 (-1) (-1) (-1) 0 0)) := by
  refine br_f (by decide +kernel) ?_
  refine ⟨rx_in6_2, ?_⟩
  refine br_t (by decide +kernel) ?_
  refine ⟨rx_in6_2, ?_⟩
  refine br_t (by decide +kernel) ?_
  refine ⟨rx_in6_2, ?_⟩
  refine nm_r (e' := (4 : Int32)) (by decide +kernel) ?_
  refine nm_r (e' := (3 : Int32)) (by decide +kernel) ?_
  refine ⟨(by decide +kernel), ?_⟩
  refine nm_r (e' := (3 : Int32)) (by decide +kernel) ?_
  refine nm_r (e' := (1 : Int32)) (by decide +kernel) ?_
  refine br_f (by decide +kernel) ?_
  refine ⟨rx_in6_2, ?_⟩
  refine ⟨rx_in6_2, ?_⟩
  refine ⟨(rx_in (by decide +kernel)), ?_⟩
  refine nm_r (e' := (rx_6 d10_2 d4_1 d4_2 d4_3 d4_4 d4_5)) (rx_u0 (by decide +kernel) (rx_g2 rfl)) ?_
  refine ⟨rx_in6_2, ?_⟩
  refine ⟨(rx_in (by decide +kernel)), ?_⟩
  refine br_t (by decide +kernel) ?_
  refine ⟨rx_in6_2, ?_⟩
  refine ⟨(rx_in (by decide +kernel)), ?_⟩
  refine nm_r (e' := (rx_6 (-1) (-1) (-1) (-1) 0 0)) (rx_u0 (by decide +kernel) rfl) ?_
  refine br_f (by decide +kernel) ?_
  refine br_t (by decide +kernel) ?_
  refine ⟨rx_in6_2, ?_⟩
  refine rx_194 (z' := 3) (by decide +kernel) ?_
  refine br_f (by decide +kernel) ?_
  exact hp
theorem rx_ret_23 {post : Int32 → St2 → Prop} {f0_size f0_at f0_state f0_count f0_guessBits f0_fetchAt f0_fetching : Int32} {a1 a2 a3 a4 a5 a6 a7 a9 a10 a11 a13 a14 a15 a16 a17 a18 a19 : Nat → Int32} (hp : post 0 (f0_size, f0_at, 3, f0_count, f0_guessBits, f0_fetchAt, f0_fetching, 1, 3, a1, a2, a3, a4, a5, a6, a7, (rx_6 2 2 0 2 0 0), a9, a10, a11, (rx_6 0 1 0 1 0 0), a13, a14, a15, a16, a17, a18, a19)) :
    wpX_retire post (f0_size, f0_at, f0_state, f0_count, f0_guessBits, f0_fetchAt, f0_fetching, 1, 3, a1, a2, a3, a4, a5, a6, a7, (rx_6 2 2 0 2 0 0), a9, a10, a11, (rx_6 0 1 0 1 0 0), a13, a14, a15, a16, a17, a18, a19) := by
  refine br_f (by decide +kernel) ?_
  refine ⟨rx_in6_1, ?_⟩
  refine br_t (by decide +kernel) ?_
  refine ⟨rx_in6_1, ?_⟩
  refine br_f (by decide +kernel) ?_
  exact hp
end
section
theorem rx_com_1 {post : St2 → Prop} {f0_size f0_at f0_state f0_count f0_guessBits f0_fetchAt f0_fetching f0_first : Int32} {a1 a2 a3 a4 a5 a6 a7 a8 a9 a10 a11 a12 a13 a14 a15 a16 a17 a18 a19 : Nat → Int32} (hp : post (f0_size, f0_at, f0_state, f0_count, f0_guessBits, f0_fetchAt, f0_fetching, f0_first, 0, a1, a2, a3, a4, a5, a6, a7, a8, a9, a10, a11, a12, a13, a14, a15, a16, a17, a18, a19)) :
    wpX_complete post (f0_size, f0_at, f0_state, f0_count, f0_guessBits, f0_fetchAt, f0_fetching, f0_first, 0, a1, a2, a3, a4, a5, a6, a7, a8, a9, a10, a11, a12, a13, a14, a15, a16, a17, a18, a19) := by
  refine ⟨7, ?_⟩
  refine br_t (by decide +kernel) ?_
  exact hp
theorem rx_com_2 {post : St2 → Prop} {f0_size f0_at f0_state f0_count f0_guessBits f0_fetchAt f0_fetching : Int32} {a1 a2 a3 a4 a5 a6 a7 a9 a10 a11 a12 a13 a14 a15 a16 a17 a18 a19 : Nat → Int32} (hp : post (f0_size, f0_at, f0_state, f0_count, f0_guessBits, f0_fetchAt, f0_fetching, 0, 1, a1, a2, a3, a4, a5, a6, a7, (rx_6 0 0 0 0 0 0), a9, a10, a11, a12, a13, a14, a15, a16, a17, a18, a19)) :
    wpX_complete post (f0_size, f0_at, f0_state, f0_count, f0_guessBits, f0_fetchAt, f0_fetching, 0, 1, a1, a2, a3, a4, a5, a6, a7, (rx_6 0 0 0 0 0 0), a9, a10, a11, a12, a13, a14, a15, a16, a17, a18, a19) := by
  refine ⟨7, ?_⟩
  refine br_f (by decide +kernel) ?_
  refine ⟨(by decide +kernel), ?_⟩
  refine nm_r (e' := (0 : Int32)) (by decide +kernel) ?_
  refine ⟨rx_in6_0, ?_⟩
  refine br_f (by decide +kernel) ?_
  refine nm_r (e' := (1 : Int32)) (by decide +kernel) ?_
  refine br_t (by decide +kernel) ?_
  exact hp
theorem rx_com_3 {post : St2 → Prop} {f0_size f0_at f0_state f0_count f0_guessBits f0_fetchAt f0_fetching d10_0 d10_1 d10_2 d10_3 d10_4 d10_5 d17_0 d17_1 d17_2 d17_3 d17_4 d17_5 d18_0 d18_1 d18_2 d18_3 d18_4 d18_5 : Int32} {a1 a2 a3 a4 a5 a7 a11 a12 a13 a14 a19 : Nat → Int32} (hp : post (f0_size, f0_at, f0_state, f0_count, f0_guessBits, f0_fetchAt, f0_fetching, 0, 2, a1, a2, a3, a4, a5, (rx_6 1 5 0 0 0 0), a7, (rx_6 2 0 0 0 0 0), (rx_6 0 0 0 0 0 0), (rx_6 (d17_0 + d18_0) d10_1 d10_2 d10_3 d10_4 d10_5), a11, a12, a13, a14, (rx_6 (-1) (-1) 0 0 0 0), (rx_6 (-1) (-1) 0 0 0 0), (rx_6 d17_0 (d17_0 + d18_0) d17_2 d17_3 d17_4 d17_5), (rx_6 d18_0 d18_1 d18_2 d18_3 d18_4 d18_5), a19)) :
    wpX_complete post (f0_size, f0_at, f0_state, f0_count, f0_guessBits, f0_fetchAt, f0_fetching, 0, 2, a1, a2, a3, a4, a5, (rx_6 1 5 0 0 0 0), a7, (rx_6 1 0 0 0 0 0), (rx_6 1 0 0 0 0 0), (rx_6 d10_0 d10_1 d10_2 d10_3 d10_4 d10_5), a11, a12, a13, a14, (rx_6 (-1) 0 0 0 0 0), (rx_6 (-1) (-1) 0 0 0 0), (rx_6 d17_0 d17_1 d17_2 d17_3 d17_4 d17_5), (rx_6 d18_0 d18_1 d18_2 d18_3 d18_4 d18_5), a19) := by
  refine ⟨7, ?_⟩
  refine br_f (by decide +kernel) ?_
  refine ⟨(by decide +kernel), ?_⟩
  refine nm_r (e' := (0 : Int32)) (by decide +kernel) ?_
  refine ⟨rx_in6_0, ?_⟩
  refine br_t (by decide +kernel) ?_
  refine ⟨rx_in6_0, ?_⟩
  refine br_f (by decide +kernel) ?_
  refine ⟨rx_in6_0, ?_⟩
  refine ⟨rx_in6_0, ?_⟩
  refine nm_r (e' := (rx_6 0 0 0 0 0 0)) (rx_u0 rfl (by decide +kernel)) ?_
  refine ⟨rx_in6_0, ?_⟩
  refine br_t (by decide +kernel) ?_
  refine br_f (by decide +kernel) ?_
  refine ⟨rx_in6_0, ?_⟩
  refine nm_r (e' := (d17_0 : Int32)) (rx_g0 rfl) ?_
  refine ⟨rx_in6_0, ?_⟩
  refine nm_r (e' := (d18_0 : Int32)) (rx_g0 rfl) ?_
  refine ⟨rx_in6_0, ?_⟩
  refine nm_r (e' := (1 : Int32)) (by decide +kernel) ?_
  refine br_t (by decide +kernel) ?_
  refine ⟨rx_in6_0, ?_⟩
  refine nm_r (e' := (rx_6 (d17_0 + d18_0) d10_1 d10_2 d10_3 d10_4 d10_5)) (rx_u0 rfl rfl) ?_
  refine ⟨rx_in6_0, ?_⟩
  refine nm_r (e' := (rx_6 2 0 0 0 0 0)) (rx_u0 rfl rfl) ?_
  refine ⟨7, ?_⟩
  refine br_f (by decide +kernel) ?_
  refine ⟨(by decide +kernel), ?_⟩
  refine nm_r (e' := (0 : Int32)) (by decide +kernel) ?_
  refine ⟨rx_in6_0, ?_⟩
  refine br_f (by decide +kernel) ?_
  refine ⟨rx_in6_0, ?_⟩
  refine br_f (by decide +kernel) ?_
  refine nm_r (e' := (1 : Int32)) (by decide +kernel) ?_
  refine br_f (by decide +kernel) ?_
  refine ⟨(by decide +kernel), ?_⟩
  refine nm_r (e' := (1 : Int32)) (by decide +kernel) ?_
  refine ⟨rx_in6_1, ?_⟩
  refine br_t (by decide +kernel) ?_
  refine ⟨rx_in6_1, ?_⟩
  refine nm_r (e' := (rx_6 (-1) (-1) 0 0 0 0)) (rx_u1 rfl rfl) ?_
  refine ⟨rx_in6_0, ?_⟩
  refine ⟨rx_in6_1, ?_⟩
  refine nm_r (e' := (rx_6 d17_0 (d17_0 + d18_0) d17_2 d17_3 d17_4 d17_5)) (rx_u1 rfl (rx_g0 rfl)) ?_
  refine ⟨rx_in6_1, ?_⟩
  refine br_f (by decide +kernel) ?_
  refine nm_r (e' := (2 : Int32)) (by decide +kernel) ?_
  refine br_t (by decide +kernel) ?_
  refine nm_r (e' := (1 : Int32)) (by decide +kernel) ?_
  refine br_f (by decide +kernel) ?_
  refine ⟨(by decide +kernel), ?_⟩
  refine nm_r (e' := (1 : Int32)) (by decide +kernel) ?_
  refine ⟨rx_in6_1, ?_⟩
  refine br_f (by decide +kernel) ?_
  refine nm_r (e' := (2 : Int32)) (by decide +kernel) ?_
  refine br_t (by decide +kernel) ?_
  exact hp
theorem rx_com_4 {post : St2 → Prop} {f0_size f0_at f0_state f0_count f0_guessBits f0_fetchAt f0_fetching d11_0 d11_1 d11_2 d11_3 d11_4 d11_5 d17_0 d17_1 d17_2 d17_3 d17_4 d17_5 d18_0 d18_1 d18_2 d18_3 d18_4 d18_5 : Int32} {a1 a2 a3 a4 a5 a7 a10 a13 a14 a19 : Nat → Int32} (h1 : 0 ≤ d18_1) (hp : post (f0_size, f0_at, f0_state, f0_count, f0_guessBits, f0_fetchAt, f0_fetching, 1, 2, a1, a2, a3, a4, a5, (rx_6 1 5 4 0 0 0), a7, (rx_6 2 2 0 0 0 0), (rx_6 0 0 0 0 0 0), a10, (rx_6 d11_0 (d18_1 &&& 7) d11_2 d11_3 d11_4 d11_5), (rx_6 0 0 0 0 0 0), a13, a14, (rx_6 (-1) (-1) (-1) 0 0 0), (rx_6 (-1) (-1) (-1) 0 0 0), (rx_6 d17_0 d17_1 d17_2 d17_3 d17_4 d17_5), (rx_6 d18_0 d18_1 d18_2 d18_3 d18_4 d18_5), a19)) :
    wpX_complete post (f0_size, f0_at, f0_state, f0_count, f0_guessBits, f0_fetchAt, f0_fetching, 1, 2, a1, a2, a3, a4, a5, (rx_6 1 5 4 0 0 0), a7, (rx_6 2 1 0 0 0 0), (rx_6 0 1 0 0 0 0), a10, (rx_6 d11_0 d11_1 d11_2 d11_3 d11_4 d11_5), (rx_6 0 0 0 0 0 0), a13, a14, (rx_6 (-1) (-1) (-1) 0 0 0), (rx_6 (-1) (-1) (-1) 0 0 0), (rx_6 d17_0 d17_1 d17_2 d17_3 d17_4 d17_5), (rx_6 d18_0 d18_1 d18_2 d18_3 d18_4 d18_5), a19) := by
  refine ⟨7, ?_⟩
  refine br_f (by decide +kernel) ?_
  refine ⟨(by decide +kernel), ?_⟩
  refine nm_r (e' := (1 : Int32)) (by decide +kernel) ?_
  refine ⟨rx_in6_1, ?_⟩
  refine br_t (by decide +kernel) ?_
  refine ⟨rx_in6_1, ?_⟩
  refine br_f (by decide +kernel) ?_
  refine ⟨rx_in6_1, ?_⟩
  refine ⟨rx_in6_1, ?_⟩
  refine nm_r (e' := (rx_6 0 0 0 0 0 0)) (rx_u1 rfl (by decide +kernel)) ?_
  refine ⟨rx_in6_1, ?_⟩
  refine br_t (by decide +kernel) ?_
  refine br_f (by decide +kernel) ?_
  refine ⟨rx_in6_1, ?_⟩
  refine nm_r (e' := (d17_1 : Int32)) (rx_g1 rfl) ?_
  refine ⟨rx_in6_1, ?_⟩
  refine nm_r (e' := (d18_1 : Int32)) (rx_g1 rfl) ?_
  refine ⟨rx_in6_1, ?_⟩
  refine nm_r (e' := (5 : Int32)) (by decide +kernel) ?_
  refine br_f (by decide +kernel) ?_
  refine br_f (by decide +kernel) ?_
  refine br_f (by decide +kernel) ?_
  refine br_f (by decide +kernel) ?_
  refine br_t (by decide +kernel) ?_
  refine br_t h1 ?_
  refine ⟨rx_in6_1, ?_⟩
  refine nm_r (e' := (rx_6 0 0 0 0 0 0)) (rx_u1 rfl (by decide +kernel)) ?_
  refine ⟨rx_in6_1, ?_⟩
  refine nm_r (e' := (rx_6 d11_0 (d18_1 &&& 7) d11_2 d11_3 d11_4 d11_5)) (rx_u1 rfl rfl) ?_
  refine ⟨rx_in6_1, ?_⟩
  refine nm_r (e' := (rx_6 2 2 0 0 0 0)) (rx_u1 rfl rfl) ?_
  refine ⟨7, ?_⟩
  refine br_f (by decide +kernel) ?_
  refine ⟨(by decide +kernel), ?_⟩
  refine nm_r (e' := (1 : Int32)) (by decide +kernel) ?_
  refine ⟨rx_in6_1, ?_⟩
  refine br_f (by decide +kernel) ?_
  refine ⟨rx_in6_1, ?_⟩
  refine br_f (by decide +kernel) ?_
  refine nm_r (e' := (1 : Int32)) (by decide +kernel) ?_
  refine br_f (by decide +kernel) ?_
  refine ⟨(by decide +kernel), ?_⟩
  refine nm_r (e' := (2 : Int32)) (by decide +kernel) ?_
  refine ⟨rx_in6_2, ?_⟩
  refine br_f (by decide +kernel) ?_
  refine ⟨rx_in6_2, ?_⟩
  refine br_f (by decide +kernel) ?_
  refine nm_r (e' := (2 : Int32)) (by decide +kernel) ?_
  refine br_t (by decide +kernel) ?_
  refine nm_r (e' := (1 : Int32)) (by decide +kernel) ?_
  refine br_f (by decide +kernel) ?_
  refine ⟨(by decide +kernel), ?_⟩
  refine nm_r (e' := (2 : Int32)) (by decide +kernel) ?_
  refine ⟨rx_in6_2, ?_⟩
  refine br_f (by decide +kernel) ?_
  refine nm_r (e' := (2 : Int32)) (by decide +kernel) ?_
  refine br_t (by decide +kernel) ?_
  exact hp
theorem rx_com_5 {post : St2 → Prop} {f0_size f0_at f0_state f0_count f0_guessBits f0_fetchAt f0_fetching : Int32} {a1 a2 a3 a4 a5 a6 a7 a9 a10 a11 a12 a13 a14 a15 a16 a17 a18 a19 : Nat → Int32} (hp : post (f0_size, f0_at, f0_state, f0_count, f0_guessBits, f0_fetchAt, f0_fetching, 2, 2, a1, a2, a3, a4, a5, a6, a7, (rx_6 2 2 0 0 0 0), a9, a10, a11, a12, a13, a14, a15, a16, a17, a18, a19)) :
    wpX_complete post (f0_size, f0_at, f0_state, f0_count, f0_guessBits, f0_fetchAt, f0_fetching, 2, 2, a1, a2, a3, a4, a5, a6, a7, (rx_6 2 2 0 0 0 0), a9, a10, a11, a12, a13, a14, a15, a16, a17, a18, a19) := by
  refine ⟨7, ?_⟩
  refine br_f (by decide +kernel) ?_
  refine ⟨(by decide +kernel), ?_⟩
  refine nm_r (e' := (2 : Int32)) (by decide +kernel) ?_
  refine ⟨rx_in6_2, ?_⟩
  refine br_f (by decide +kernel) ?_
  refine nm_r (e' := (1 : Int32)) (by decide +kernel) ?_
  refine br_f (by decide +kernel) ?_
  refine ⟨(by decide +kernel), ?_⟩
  refine nm_r (e' := (3 : Int32)) (by decide +kernel) ?_
  refine ⟨rx_in6_3, ?_⟩
  refine br_f (by decide +kernel) ?_
  refine nm_r (e' := (2 : Int32)) (by decide +kernel) ?_
  refine br_t (by decide +kernel) ?_
  exact hp
theorem rx_com_6 {post : St2 → Prop} {f0_size f0_at f0_state f0_count f0_guessBits f0_fetchAt f0_fetching d17_0 d17_1 d17_2 d17_3 d17_4 d17_5 d18_0 d18_1 d18_2 d18_3 d18_4 d18_5 : Int32} {a1 a2 a3 a4 a5 a7 a10 a11 a13 a14 a19 : Nat → Int32} (hp : post (f0_size, f0_at, f0_state, f0_count, f0_guessBits, f0_fetchAt, f0_fetching, 2, 2, a1, a2, a3, a4, a5, (rx_6 1 5 4 9 0 0), a7, (rx_6 2 2 1 2 0 0), (rx_6 0 0 1 0 0 0), a10, a11, (rx_6 0 0 0 1 0 0), a13, a14, (rx_6 (-1) (-1) (-1) (-1) 0 0), (rx_6 (-1) (-1) (-1) (-1) 0 0), (rx_6 d17_0 d17_1 d17_2 d17_3 d17_4 d17_5), (rx_6 d18_0 d18_1 d18_2 d18_3 d18_4 d18_5), a19)) :
    wpX_complete post (f0_size, f0_at, f0_state, f0_count, f0_guessBits, f0_fetchAt, f0_fetching, 2, 2, a1, a2, a3, a4, a5, (rx_6 1 5 4 9 0 0), a7, (rx_6 2 2 1 1 0 0), (rx_6 0 0 2 1 0 0), a10, a11, (rx_6 0 0 0 0 0 0), a13, a14, (rx_6 (-1) (-1) (-1) (-1) 0 0), (rx_6 (-1) (-1) (-1) (-1) 0 0), (rx_6 d17_0 d17_1 d17_2 d17_3 d17_4 d17_5), (rx_6 d18_0 d18_1 d18_2 d18_3 d18_4 d18_5), a19) := by
  refine ⟨7, ?_⟩
  refine br_f (by decide +kernel) ?_
  refine ⟨(by decide +kernel), ?_⟩
  refine nm_r (e' := (2 : Int32)) (by decide +kernel) ?_
  refine ⟨rx_in6_2, ?_⟩
  refine br_t (by decide +kernel) ?_
  refine ⟨rx_in6_2, ?_⟩
  refine br_f (by decide +kernel) ?_
  refine ⟨rx_in6_2, ?_⟩
  refine ⟨rx_in6_2, ?_⟩
  refine nm_r (e' := (rx_6 0 0 1 1 0 0)) (rx_u2 rfl (by decide +kernel)) ?_
  refine ⟨rx_in6_2, ?_⟩
  refine br_f (by decide +kernel) ?_
  refine nm_r (e' := (1 : Int32)) (by decide +kernel) ?_
  refine br_f (by decide +kernel) ?_
  refine ⟨(by decide +kernel), ?_⟩
  refine nm_r (e' := (3 : Int32)) (by decide +kernel) ?_
  refine ⟨rx_in6_3, ?_⟩
  refine br_t (by decide +kernel) ?_
  refine ⟨rx_in6_3, ?_⟩
  refine br_f (by decide +kernel) ?_
  refine ⟨rx_in6_3, ?_⟩
  refine ⟨rx_in6_3, ?_⟩
  refine nm_r (e' := (rx_6 0 0 1 0 0 0)) (rx_u3 rfl (by decide +kernel)) ?_
  refine ⟨rx_in6_3, ?_⟩
  refine br_t (by decide +kernel) ?_
  refine br_f (by decide +kernel) ?_
  refine ⟨rx_in6_3, ?_⟩
  refine nm_r (e' := (d17_3 : Int32)) (rx_g3 rfl) ?_
  refine ⟨rx_in6_3, ?_⟩
  refine nm_r (e' := (d18_3 : Int32)) (rx_g3 rfl) ?_
  refine ⟨rx_in6_3, ?_⟩
  refine nm_r (e' := (9 : Int32)) (by decide +kernel) ?_
  refine br_f (by decide +kernel) ?_
  refine br_f (by decide +kernel) ?_
  refine br_f (by decide +kernel) ?_
  refine br_f (by decide +kernel) ?_
  refine br_f (by decide +kernel) ?_
  refine br_f (by decide +kernel) ?_
  refine br_t (by decide +kernel) ?_
  refine ⟨rx_in6_3, ?_⟩
  refine nm_r (e' := (rx_6 0 0 0 1 0 0)) (rx_u3 rfl rfl) ?_
  refine ⟨rx_in6_3, ?_⟩
  refine nm_r (e' := (rx_6 2 2 1 2 0 0)) (rx_u3 rfl rfl) ?_
  refine ⟨7, ?_⟩
  refine br_f (by decide +kernel) ?_
  refine ⟨(by decide +kernel), ?_⟩
  refine nm_r (e' := (2 : Int32)) (by decide +kernel) ?_
  refine ⟨rx_in6_2, ?_⟩
  refine br_f (by decide +kernel) ?_
  refine ⟨rx_in6_2, ?_⟩
  refine br_f (by decide +kernel) ?_
  refine nm_r (e' := (1 : Int32)) (by decide +kernel) ?_
  refine br_f (by decide +kernel) ?_
  refine ⟨(by decide +kernel), ?_⟩
  refine nm_r (e' := (3 : Int32)) (by decide +kernel) ?_
  refine ⟨rx_in6_3, ?_⟩
  refine br_f (by decide +kernel) ?_
  refine ⟨rx_in6_3, ?_⟩
  refine br_f (by decide +kernel) ?_
  refine nm_r (e' := (2 : Int32)) (by decide +kernel) ?_
  refine br_t (by decide +kernel) ?_
  refine nm_r (e' := (2 : Int32)) (by decide +kernel) ?_
  refine br_t (by decide +kernel) ?_
  exact hp
theorem rx_com_7 {post : St2 → Prop} {f0_size f0_at f0_state f0_count f0_guessBits f0_fetchAt f0_fetching d10_0 d10_1 d10_2 d10_3 d10_4 d10_5 d17_0 d17_1 d17_2 d17_3 d17_4 d17_5 d18_0 d18_1 d18_2 d18_3 d18_4 d18_5 : Int32} {a1 a2 a3 a4 a5 a7 a11 a13 a14 a19 : Nat → Int32} (h1 : 0 ≤ d17_2) (hp : post (f0_size, f0_at, f0_state, f0_count, f0_guessBits, f0_fetchAt, f0_fetching, 2, 2, a1, a2, a3, a4, a5, (rx_6 1 5 4 9 0 0), a7, (rx_6 2 2 2 2 0 0), (rx_6 0 0 0 0 0 0), (rx_6 d10_0 d10_1 (a5 (d17_2 &&& 7).toNatClampNeg) d10_3 d10_4 d10_5), a11, (rx_6 0 0 0 1 0 0), a13, a14, (rx_6 (-1) (-1) (-1) (-1) 0 0), (rx_6 (-1) (-1) (-1) (-1) 0 0), (rx_6 d17_0 d17_1 d17_2 d17_3 d17_4 d17_5), (rx_6 d18_0 d18_1 d18_2 d18_3 d18_4 d18_5), a19)) :
    wpX_complete post (f0_size, f0_at, f0_state, f0_count, f0_guessBits, f0_fetchAt, f0_fetching, 2, 2, a1, a2, a3, a4, a5, (rx_6 1 5 4 9 0 0), a7, (rx_6 2 2 1 2 0 0), (rx_6 0 0 1 0 0 0), (rx_6 d10_0 d10_1 d10_2 d10_3 d10_4 d10_5), a11, (rx_6 0 0 0 1 0 0), a13, a14, (rx_6 (-1) (-1) (-1) (-1) 0 0), (rx_6 (-1) (-1) (-1) (-1) 0 0), (rx_6 d17_0 d17_1 d17_2 d17_3 d17_4 d17_5), (rx_6 d18_0 d18_1 d18_2 d18_3 d18_4 d18_5), a19) := by
  refine ⟨7, ?_⟩
  refine br_f (by decide +kernel) ?_
  refine ⟨(by decide +kernel), ?_⟩
  refine nm_r (e' := (2 : Int32)) (by decide +kernel) ?_
  refine ⟨rx_in6_2, ?_⟩
  refine br_t (by decide +kernel) ?_
  refine ⟨rx_in6_2, ?_⟩
  refine br_f (by decide +kernel) ?_
  refine ⟨rx_in6_2, ?_⟩
  refine ⟨rx_in6_2, ?_⟩
  refine nm_r (e' := (rx_6 0 0 0 0 0 0)) (rx_u2 rfl (by decide +kernel)) ?_
  refine ⟨rx_in6_2, ?_⟩
  refine br_t (by decide +kernel) ?_
  refine br_f (by decide +kernel) ?_
  refine ⟨rx_in6_2, ?_⟩
  refine nm_r (e' := (d17_2 : Int32)) (rx_g2 rfl) ?_
  refine ⟨rx_in6_2, ?_⟩
  refine nm_r (e' := (d18_2 : Int32)) (rx_g2 rfl) ?_
  refine ⟨rx_in6_2, ?_⟩
  refine nm_r (e' := (4 : Int32)) (by decide +kernel) ?_
  refine br_f (by decide +kernel) ?_
  refine br_f (by decide +kernel) ?_
  refine br_f (by decide +kernel) ?_
  refine br_t (by decide +kernel) ?_
  refine br_t h1 ?_
  refine ⟨rx_in6_2, ?_⟩
  refine nm_r (e' := (rx_6 0 0 0 1 0 0)) (rx_u2 rfl (by decide +kernel)) ?_
  refine ⟨(rx_and7 d17_2), ?_⟩
  refine ⟨rx_in6_2, ?_⟩
  refine nm_r (e' := (rx_6 d10_0 d10_1 (a5 (d17_2 &&& 7).toNatClampNeg) d10_3 d10_4 d10_5)) (rx_u2 rfl rfl) ?_
  refine ⟨rx_in6_2, ?_⟩
  refine nm_r (e' := (rx_6 2 2 2 2 0 0)) (rx_u2 rfl rfl) ?_
  refine ⟨7, ?_⟩
  refine br_f (by decide +kernel) ?_
  refine ⟨(by decide +kernel), ?_⟩
  refine nm_r (e' := (2 : Int32)) (by decide +kernel) ?_
  refine ⟨rx_in6_2, ?_⟩
  refine br_f (by decide +kernel) ?_
  refine ⟨rx_in6_2, ?_⟩
  refine br_f (by decide +kernel) ?_
  refine nm_r (e' := (1 : Int32)) (by decide +kernel) ?_
  refine br_f (by decide +kernel) ?_
  refine ⟨(by decide +kernel), ?_⟩
  refine nm_r (e' := (3 : Int32)) (by decide +kernel) ?_
  refine ⟨rx_in6_3, ?_⟩
  refine br_f (by decide +kernel) ?_
  refine ⟨rx_in6_3, ?_⟩
  refine br_f (by decide +kernel) ?_
  refine nm_r (e' := (2 : Int32)) (by decide +kernel) ?_
  refine br_t (by decide +kernel) ?_
  refine nm_r (e' := (1 : Int32)) (by decide +kernel) ?_
  refine br_f (by decide +kernel) ?_
  refine ⟨(by decide +kernel), ?_⟩
  refine nm_r (e' := (3 : Int32)) (by decide +kernel) ?_
  refine ⟨rx_in6_3, ?_⟩
  refine br_f (by decide +kernel) ?_
  refine nm_r (e' := (2 : Int32)) (by decide +kernel) ?_
  refine br_t (by decide +kernel) ?_
  exact hp
theorem rx_com_8 {post : St2 → Prop} {f0_size f0_at f0_state f0_count f0_guessBits f0_fetchAt f0_fetching : Int32} {a1 a2 a3 a4 a5 a6 a7 a9 a10 a11 a12 a13 a14 a15 a16 a17 a18 a19 : Nat → Int32} (hp : post (f0_size, f0_at, f0_state, f0_count, f0_guessBits, f0_fetchAt, f0_fetching, 3, 1, a1, a2, a3, a4, a5, a6, a7, (rx_6 2 2 2 2 0 0), a9, a10, a11, a12, a13, a14, a15, a16, a17, a18, a19)) :
    wpX_complete post (f0_size, f0_at, f0_state, f0_count, f0_guessBits, f0_fetchAt, f0_fetching, 3, 1, a1, a2, a3, a4, a5, a6, a7, (rx_6 2 2 2 2 0 0), a9, a10, a11, a12, a13, a14, a15, a16, a17, a18, a19) := by
  refine ⟨7, ?_⟩
  refine br_f (by decide +kernel) ?_
  refine ⟨(by decide +kernel), ?_⟩
  refine nm_r (e' := (3 : Int32)) (by decide +kernel) ?_
  refine ⟨rx_in6_3, ?_⟩
  refine br_f (by decide +kernel) ?_
  refine nm_r (e' := (1 : Int32)) (by decide +kernel) ?_
  refine br_t (by decide +kernel) ?_
  exact hp
theorem rx_com_9 {post : St2 → Prop} {f0_size f0_at f0_state f0_count f0_guessBits f0_fetchAt f0_fetching d11_0 d11_1 d11_2 d11_3 d11_4 d11_5 d17_0 d17_1 d17_2 d17_3 d17_4 d17_5 d18_0 d18_1 d18_2 d18_3 d18_4 d18_5 : Int32} {a1 a2 a3 a4 a5 a7 a10 a13 a14 a19 : Nat → Int32} (h1 : ¬ 0 ≤ d18_1) (hp : post (f0_size, f0_at, f0_state, f0_count, f0_guessBits, f0_fetchAt, f0_fetching, 1, 2, a1, a2, a3, a4, a5, (rx_6 1 5 4 0 0 0), a7, (rx_6 2 2 0 0 0 0), (rx_6 0 0 0 0 0 0), a10, (rx_6 d11_0 (d18_1 &&& 7) d11_2 d11_3 d11_4 d11_5), (rx_6 0 1 0 0 0 0), a13, a14, (rx_6 (-1) (-1) (-1) 0 0 0), (rx_6 (-1) (-1) (-1) 0 0 0), (rx_6 d17_0 d17_1 d17_2 d17_3 d17_4 d17_5), (rx_6 d18_0 d18_1 d18_2 d18_3 d18_4 d18_5), a19)) :
    wpX_complete post (f0_size, f0_at, f0_state, f0_count, f0_guessBits, f0_fetchAt, f0_fetching, 1, 2, a1, a2, a3, a4, a5, (rx_6 1 5 4 0 0 0), a7, (rx_6 2 1 0 0 0 0), (rx_6 0 1 0 0 0 0), a10, (rx_6 d11_0 d11_1 d11_2 d11_3 d11_4 d11_5), (rx_6 0 0 0 0 0 0), a13, a14, (rx_6 (-1) (-1) (-1) 0 0 0), (rx_6 (-1) (-1) (-1) 0 0 0), (rx_6 d17_0 d17_1 d17_2 d17_3 d17_4 d17_5), (rx_6 d18_0 d18_1 d18_2 d18_3 d18_4 d18_5), a19) := by
  refine ⟨7, ?_⟩
  refine br_f (by decide +kernel) ?_
  refine ⟨(by decide +kernel), ?_⟩
  refine nm_r (e' := (1 : Int32)) (by decide +kernel) ?_
  refine ⟨rx_in6_1, ?_⟩
  refine br_t (by decide +kernel) ?_
  refine ⟨rx_in6_1, ?_⟩
  refine br_f (by decide +kernel) ?_
  refine ⟨rx_in6_1, ?_⟩
  refine ⟨rx_in6_1, ?_⟩
  refine nm_r (e' := (rx_6 0 0 0 0 0 0)) (rx_u1 rfl (by decide +kernel)) ?_
  refine ⟨rx_in6_1, ?_⟩
  refine br_t (by decide +kernel) ?_
  refine br_f (by decide +kernel) ?_
  refine ⟨rx_in6_1, ?_⟩
  refine nm_r (e' := (d17_1 : Int32)) (rx_g1 rfl) ?_
  refine ⟨rx_in6_1, ?_⟩
  refine nm_r (e' := (d18_1 : Int32)) (rx_g1 rfl) ?_
  refine ⟨rx_in6_1, ?_⟩
  refine nm_r (e' := (5 : Int32)) (by decide +kernel) ?_
  refine br_f (by decide +kernel) ?_
  refine br_f (by decide +kernel) ?_
  refine br_f (by decide +kernel) ?_
  refine br_f (by decide +kernel) ?_
  refine br_t (by decide +kernel) ?_
  refine br_f h1 ?_
  refine ⟨rx_in6_1, ?_⟩
  refine nm_r (e' := (rx_6 0 1 0 0 0 0)) (rx_u1 rfl (by decide +kernel)) ?_
  refine ⟨rx_in6_1, ?_⟩
  refine nm_r (e' := (rx_6 d11_0 (d18_1 &&& 7) d11_2 d11_3 d11_4 d11_5)) (rx_u1 rfl rfl) ?_
  refine ⟨rx_in6_1, ?_⟩
  refine nm_r (e' := (rx_6 2 2 0 0 0 0)) (rx_u1 rfl rfl) ?_
  refine ⟨7, ?_⟩
  refine br_f (by decide +kernel) ?_
  refine ⟨(by decide +kernel), ?_⟩
  refine nm_r (e' := (1 : Int32)) (by decide +kernel) ?_
  refine ⟨rx_in6_1, ?_⟩
  refine br_f (by decide +kernel) ?_
  refine ⟨rx_in6_1, ?_⟩
  refine br_f (by decide +kernel) ?_
  refine nm_r (e' := (1 : Int32)) (by decide +kernel) ?_
  refine br_f (by decide +kernel) ?_
  refine ⟨(by decide +kernel), ?_⟩
  refine nm_r (e' := (2 : Int32)) (by decide +kernel) ?_
  refine ⟨rx_in6_2, ?_⟩
  refine br_f (by decide +kernel) ?_
  refine ⟨rx_in6_2, ?_⟩
  refine br_f (by decide +kernel) ?_
  refine nm_r (e' := (2 : Int32)) (by decide +kernel) ?_
  refine br_t (by decide +kernel) ?_
  refine nm_r (e' := (1 : Int32)) (by decide +kernel) ?_
  refine br_f (by decide +kernel) ?_
  refine ⟨(by decide +kernel), ?_⟩
  refine nm_r (e' := (2 : Int32)) (by decide +kernel) ?_
  refine ⟨rx_in6_2, ?_⟩
  refine br_f (by decide +kernel) ?_
  refine nm_r (e' := (2 : Int32)) (by decide +kernel) ?_
  refine br_t (by decide +kernel) ?_
  exact hp
theorem rx_com_10 {post : St2 → Prop} {f0_size f0_at f0_state f0_count f0_guessBits f0_fetchAt f0_fetching : Int32} {a1 a2 a3 a4 a5 a6 a7 a10 a11 a12 a13 a14 a15 a16 a17 a18 a19 : Nat → Int32} (hp : post (f0_size, f0_at, f0_state, f0_count, f0_guessBits, f0_fetchAt, f0_fetching, 0, 2, a1, a2, a3, a4, a5, a6, a7, (rx_6 1 0 0 0 0 0), (rx_6 2 0 0 0 0 0), a10, a11, a12, a13, a14, a15, a16, a17, a18, a19)) :
    wpX_complete post (f0_size, f0_at, f0_state, f0_count, f0_guessBits, f0_fetchAt, f0_fetching, 0, 2, a1, a2, a3, a4, a5, a6, a7, (rx_6 1 0 0 0 0 0), (rx_6 3 0 0 0 0 0), a10, a11, a12, a13, a14, a15, a16, a17, a18, a19) := by
  refine ⟨7, ?_⟩
  refine br_f (by decide +kernel) ?_
  refine ⟨(by decide +kernel), ?_⟩
  refine nm_r (e' := (0 : Int32)) (by decide +kernel) ?_
  refine ⟨rx_in6_0, ?_⟩
  refine br_t (by decide +kernel) ?_
  refine ⟨rx_in6_0, ?_⟩
  refine br_f (by decide +kernel) ?_
  refine ⟨rx_in6_0, ?_⟩
  refine ⟨rx_in6_0, ?_⟩
  refine nm_r (e' := (rx_6 2 0 0 0 0 0)) (rx_u0 rfl (by decide +kernel)) ?_
  refine ⟨rx_in6_0, ?_⟩
  refine br_f (by decide +kernel) ?_
  refine nm_r (e' := (1 : Int32)) (by decide +kernel) ?_
  refine br_f (by decide +kernel) ?_
  refine ⟨(by decide +kernel), ?_⟩
  refine nm_r (e' := (1 : Int32)) (by decide +kernel) ?_
  refine ⟨rx_in6_1, ?_⟩
  refine br_f (by decide +kernel) ?_
  refine nm_r (e' := (2 : Int32)) (by decide +kernel) ?_
  refine br_t (by decide +kernel) ?_
  exact hp
theorem rx_com_11 {post : St2 → Prop} {f0_size f0_at f0_state f0_count f0_guessBits f0_fetchAt f0_fetching : Int32} {a1 a2 a3 a4 a5 a6 a7 a10 a11 a12 a13 a14 a15 a16 a17 a18 a19 : Nat → Int32} (hp : post (f0_size, f0_at, f0_state, f0_count, f0_guessBits, f0_fetchAt, f0_fetching, 0, 3, a1, a2, a3, a4, a5, a6, a7, (rx_6 1 0 0 0 0 0), (rx_6 1 0 0 0 0 0), a10, a11, a12, a13, a14, a15, a16, a17, a18, a19)) :
    wpX_complete post (f0_size, f0_at, f0_state, f0_count, f0_guessBits, f0_fetchAt, f0_fetching, 0, 3, a1, a2, a3, a4, a5, a6, a7, (rx_6 1 0 0 0 0 0), (rx_6 2 0 0 0 0 0), a10, a11, a12, a13, a14, a15, a16, a17, a18, a19) := by
  refine ⟨7, ?_⟩
  refine br_f (by decide +kernel) ?_
  refine ⟨(by decide +kernel), ?_⟩
  refine nm_r (e' := (0 : Int32)) (by decide +kernel) ?_
  refine ⟨rx_in6_0, ?_⟩
  refine br_t (by decide +kernel) ?_
  refine ⟨rx_in6_0, ?_⟩
  refine br_f (by decide +kernel) ?_
  refine ⟨rx_in6_0, ?_⟩
  refine ⟨rx_in6_0, ?_⟩
  refine nm_r (e' := (rx_6 1 0 0 0 0 0)) (rx_u0 rfl (by decide +kernel)) ?_
  refine ⟨rx_in6_0, ?_⟩
  refine br_f (by decide +kernel) ?_
  refine nm_r (e' := (1 : Int32)) (by decide +kernel) ?_
  refine br_f (by decide +kernel) ?_
  refine ⟨(by decide +kernel), ?_⟩
  refine nm_r (e' := (1 : Int32)) (by decide +kernel) ?_
  refine ⟨rx_in6_1, ?_⟩
  refine br_f (by decide +kernel) ?_
  refine nm_r (e' := (2 : Int32)) (by decide +kernel) ?_
  refine br_f (by decide +kernel) ?_
  refine ⟨(by decide +kernel), ?_⟩
  refine nm_r (e' := (2 : Int32)) (by decide +kernel) ?_
  refine ⟨rx_in6_2, ?_⟩
  refine br_f (by decide +kernel) ?_
  refine nm_r (e' := (3 : Int32)) (by decide +kernel) ?_
  refine br_t (by decide +kernel) ?_
  exact hp
theorem rx_com_12 {post : St2 → Prop} {f0_size f0_at f0_state f0_count f0_guessBits f0_fetchAt f0_fetching d10_0 d10_1 d10_2 d10_3 d10_4 d10_5 d17_0 d17_1 d17_2 d17_3 d17_4 d17_5 d18_0 d18_1 d18_2 d18_3 d18_4 d18_5 : Int32} {a1 a2 a3 a4 a5 a7 a11 a12 a13 a14 a19 : Nat → Int32} (hp : post (f0_size, f0_at, f0_state, f0_count, f0_guessBits, f0_fetchAt, f0_fetching, 0, 4, a1, a2, a3, a4, a5, (rx_6 2 5 4 9 0 0), a7, (rx_6 2 0 0 0 0 0), (rx_6 0 0 0 0 0 0), (rx_6 (d17_0 * d18_0) d10_1 d10_2 d10_3 d10_4 d10_5), a11, a12, a13, a14, (rx_6 (-1) (-1) (-1) (-1) 0 0), (rx_6 (-1) (-1) (-1) (-1) 0 0), (rx_6 d17_0 (d17_0 * d18_0) d17_2 d17_3 d17_4 d17_5), (rx_6 d18_0 d18_1 d18_2 d18_3 d18_4 d18_5), a19)) :
    wpX_complete post (f0_size, f0_at, f0_state, f0_count, f0_guessBits, f0_fetchAt, f0_fetching, 0, 4, a1, a2, a3, a4, a5, (rx_6 2 5 4 9 0 0), a7, (rx_6 1 0 0 0 0 0), (rx_6 1 0 0 0 0 0), (rx_6 d10_0 d10_1 d10_2 d10_3 d10_4 d10_5), a11, a12, a13, a14, (rx_6 (-1) 0 (-1) (-1) 0 0), (rx_6 (-1) (-1) (-1) (-1) 0 0), (rx_6 d17_0 d17_1 d17_2 d17_3 d17_4 d17_5), (rx_6 d18_0 d18_1 d18_2 d18_3 d18_4 d18_5), a19) := by
  refine ⟨7, ?_⟩
  refine br_f (by decide +kernel) ?_
  refine ⟨(by decide +kernel), ?_⟩
  refine nm_r (e' := (0 : Int32)) (by decide +kernel) ?_
  refine ⟨rx_in6_0, ?_⟩
  refine br_t (by decide +kernel) ?_
  refine ⟨rx_in6_0, ?_⟩
  refine br_f (by decide +kernel) ?_
  refine ⟨rx_in6_0, ?_⟩
  refine ⟨rx_in6_0, ?_⟩
  refine nm_r (e' := (rx_6 0 0 0 0 0 0)) (rx_u0 rfl (by decide +kernel)) ?_
  refine ⟨rx_in6_0, ?_⟩
  refine br_t (by decide +kernel) ?_
  refine br_f (by decide +kernel) ?_
  refine ⟨rx_in6_0, ?_⟩
  refine nm_r (e' := (d17_0 : Int32)) (rx_g0 rfl) ?_
  refine ⟨rx_in6_0, ?_⟩
  refine nm_r (e' := (d18_0 : Int32)) (rx_g0 rfl) ?_
  refine ⟨rx_in6_0, ?_⟩
  refine nm_r (e' := (2 : Int32)) (by decide +kernel) ?_
  refine br_f (by decide +kernel) ?_
  refine br_t (by decide +kernel) ?_
  refine ⟨rx_in6_0, ?_⟩
  refine nm_r (e' := (rx_6 (d17_0 * d18_0) d10_1 d10_2 d10_3 d10_4 d10_5)) (rx_u0 rfl rfl) ?_
  refine ⟨rx_in6_0, ?_⟩
  refine nm_r (e' := (rx_6 2 0 0 0 0 0)) (rx_u0 rfl rfl) ?_
  refine ⟨7, ?_⟩
  refine br_f (by decide +kernel) ?_
  refine ⟨(by decide +kernel), ?_⟩
  refine nm_r (e' := (0 : Int32)) (by decide +kernel) ?_
  refine ⟨rx_in6_0, ?_⟩
  refine br_f (by decide +kernel) ?_
  refine ⟨rx_in6_0, ?_⟩
  refine br_f (by decide +kernel) ?_
  refine nm_r (e' := (1 : Int32)) (by decide +kernel) ?_
  refine br_f (by decide +kernel) ?_
  refine ⟨(by decide +kernel), ?_⟩
  refine nm_r (e' := (1 : Int32)) (by decide +kernel) ?_
  refine ⟨rx_in6_1, ?_⟩
  refine br_t (by decide +kernel) ?_
  refine ⟨rx_in6_1, ?_⟩
  refine nm_r (e' := (rx_6 (-1) (-1) (-1) (-1) 0 0)) (rx_u1 rfl rfl) ?_
  refine ⟨rx_in6_0, ?_⟩
  refine ⟨rx_in6_1, ?_⟩
  refine nm_r (e' := (rx_6 d17_0 (d17_0 * d18_0) d17_2 d17_3 d17_4 d17_5)) (rx_u1 rfl (rx_g0 rfl)) ?_
  refine ⟨rx_in6_1, ?_⟩
  refine br_f (by decide +kernel) ?_
  refine nm_r (e' := (2 : Int32)) (by decide +kernel) ?_
  refine br_f (by decide +kernel) ?_
  refine ⟨(by decide +kernel), ?_⟩
  refine nm_r (e' := (2 : Int32)) (by decide +kernel) ?_
  refine ⟨rx_in6_2, ?_⟩
  refine br_f (by decide +kernel) ?_
  refine ⟨rx_in6_2, ?_⟩
  refine br_f (by decide +kernel) ?_
  refine nm_r (e' := (3 : Int32)) (by decide +kernel) ?_
  refine br_f (by decide +kernel) ?_
  refine ⟨(by decide +kernel), ?_⟩
  refine nm_r (e' := (3 : Int32)) (by decide +kernel) ?_
  refine ⟨rx_in6_3, ?_⟩
  refine br_f (by decide +kernel) ?_
  refine ⟨rx_in6_3, ?_⟩
  refine br_f (by decide +kernel) ?_
  refine nm_r (e' := (4 : Int32)) (by decide +kernel) ?_
  refine br_t (by decide +kernel) ?_
  refine nm_r (e' := (1 : Int32)) (by decide +kernel) ?_
  refine br_f (by decide +kernel) ?_
  refine ⟨(by decide +kernel), ?_⟩
  refine nm_r (e' := (1 : Int32)) (by decide +kernel) ?_
  refine ⟨rx_in6_1, ?_⟩
  refine br_f (by decide +kernel) ?_
  refine nm_r (e' := (2 : Int32)) (by decide +kernel) ?_
  refine br_f (by decide +kernel) ?_
  refine ⟨(by decide +kernel), ?_⟩
  refine nm_r (e' := (2 : Int32)) (by decide +kernel) ?_
  refine ⟨rx_in6_2, ?_⟩
  refine br_f (by decide +kernel) ?_
  refine nm_r (e' := (3 : Int32)) (by decide +kernel) ?_
  refine br_f (by decide +kernel) ?_
  refine ⟨(by decide +kernel), ?_⟩
  refine nm_r (e' := (3 : Int32)) (by decide +kernel) ?_
  refine ⟨rx_in6_3, ?_⟩
  refine br_f (by decide +kernel) ?_
  refine nm_r (e' := (4 : Int32)) (by decide +kernel) ?_
  refine br_t (by decide +kernel) ?_
  exact hp
theorem rx_com_13 {post : St2 → Prop} {f0_size f0_at f0_state f0_count f0_guessBits f0_fetchAt f0_fetching d11_0 d11_1 d11_2 d11_3 d11_4 d11_5 d17_0 d17_1 d17_2 d17_3 d17_4 d17_5 d18_0 d18_1 d18_2 d18_3 d18_4 d18_5 : Int32} {a1 a2 a3 a4 a5 a7 a10 a13 a14 a19 : Nat → Int32} (h1 : 0 ≤ d18_1) (hp : post (f0_size, f0_at, f0_state, f0_count, f0_guessBits, f0_fetchAt, f0_fetching, 1, 3, a1, a2, a3, a4, a5, (rx_6 2 5 4 9 0 0), a7, (rx_6 2 2 0 1 0 0), (rx_6 0 0 0 0 0 0), a10, (rx_6 d11_0 (d18_1 &&& 7) d11_2 d11_3 d11_4 d11_5), (rx_6 0 0 0 0 0 0), a13, a14, (rx_6 (-1) (-1) (-1) (-1) 0 0), (rx_6 (-1) (-1) (-1) (-1) 0 0), (rx_6 d17_0 d17_1 d17_2 d17_3 d17_4 d17_5), (rx_6 d18_0 d18_1 d18_2 d18_3 d18_4 d18_5), a19)) :
    wpX_complete post (f0_size, f0_at, f0_state, f0_count, f0_guessBits, f0_fetchAt, f0_fetching, 1, 3, a1, a2, a3, a4, a5, (rx_6 2 5 4 9 0 0), a7, (rx_6 2 1 0 1 0 0), (rx_6 0 1 0 1 0 0), a10, (rx_6 d11_0 d11_1 d11_2 d11_3 d11_4 d11_5), (rx_6 0 0 0 0 0 0), a13, a14, (rx_6 (-1) (-1) (-1) (-1) 0 0), (rx_6 (-1) (-1) (-1) (-1) 0 0), (rx_6 d17_0 d17_1 d17_2 d17_3 d17_4 d17_5), (rx_6 d18_0 d18_1 d18_2 d18_3 d18_4 d18_5), a19) := by
  refine ⟨7, ?_⟩
  refine br_f (by decide +kernel) ?_
  refine ⟨(by decide +kernel), ?_⟩
  refine nm_r (e' := (1 : Int32)) (by decide +kernel) ?_
  refine ⟨rx_in6_1, ?_⟩
  refine br_t (by decide +kernel) ?_
  refine ⟨rx_in6_1, ?_⟩
  refine br_f (by decide +kernel) ?_
  refine ⟨rx_in6_1, ?_⟩
  refine ⟨rx_in6_1, ?_⟩
  refine nm_r (e' := (rx_6 0 0 0 1 0 0)) (rx_u1 rfl (by decide +kernel)) ?_
  refine ⟨rx_in6_1, ?_⟩
  refine br_t (by decide +kernel) ?_
  refine br_f (by decide +kernel) ?_
  refine ⟨rx_in6_1, ?_⟩
  refine nm_r (e' := (d17_1 : Int32)) (rx_g1 rfl) ?_
  refine ⟨rx_in6_1, ?_⟩
  refine nm_r (e' := (d18_1 : Int32)) (rx_g1 rfl) ?_
  refine ⟨rx_in6_1, ?_⟩
  refine nm_r (e' := (5 : Int32)) (by decide +kernel) ?_
  refine br_f (by decide +kernel) ?_
  refine br_f (by decide +kernel) ?_
  refine br_f (by decide +kernel) ?_
  refine br_f (by decide +kernel) ?_
  refine br_t (by decide +kernel) ?_
  refine br_t h1 ?_
  refine ⟨rx_in6_1, ?_⟩
  refine nm_r (e' := (rx_6 0 0 0 0 0 0)) (rx_u1 rfl (by decide +kernel)) ?_
  refine ⟨rx_in6_1, ?_⟩
  refine nm_r (e' := (rx_6 d11_0 (d18_1 &&& 7) d11_2 d11_3 d11_4 d11_5)) (rx_u1 rfl rfl) ?_
  refine ⟨rx_in6_1, ?_⟩
  refine nm_r (e' := (rx_6 2 2 0 1 0 0)) (rx_u1 rfl rfl) ?_
  refine ⟨7, ?_⟩
  refine br_f (by decide +kernel) ?_
  refine ⟨(by decide +kernel), ?_⟩
  refine nm_r (e' := (1 : Int32)) (by decide +kernel) ?_
  refine ⟨rx_in6_1, ?_⟩
  refine br_f (by decide +kernel) ?_
  refine ⟨rx_in6_1, ?_⟩
  refine br_f (by decide +kernel) ?_
  refine nm_r (e' := (1 : Int32)) (by decide +kernel) ?_
  refine br_f (by decide +kernel) ?_
  refine ⟨(by decide +kernel), ?_⟩
  refine nm_r (e' := (2 : Int32)) (by decide +kernel) ?_
  refine ⟨rx_in6_2, ?_⟩
  refine br_f (by decide +kernel) ?_
  refine ⟨rx_in6_2, ?_⟩
  refine br_f (by decide +kernel) ?_
  refine nm_r (e' := (2 : Int32)) (by decide +kernel) ?_
  refine br_f (by decide +kernel) ?_
  refine ⟨(by decide +kernel), ?_⟩
  refine nm_r (e' := (3 : Int32)) (by decide +kernel) ?_
  refine ⟨rx_in6_3, ?_⟩
  refine br_f (by decide +kernel) ?_
  refine ⟨rx_in6_3, ?_⟩
  refine br_f (by decide +kernel) ?_
  refine nm_r (e' := (3 : Int32)) (by decide +kernel) ?_
  refine br_t (by decide +kernel) ?_
  refine nm_r (e' := (1 : Int32)) (by decide +kernel) ?_
  refine br_f (by decide +kernel) ?_
  refine ⟨(by decide +kernel), ?_⟩
  refine nm_r (e' := (2 : Int32)) (by decide +kernel) ?_
  refine ⟨rx_in6_2, ?_⟩
  refine br_f (by decide +kernel) ?_
  refine nm_r (e' := (2 : Int32)) (by decide +kernel) ?_
  refine br_f (by decide +kernel) ?_
  refine ⟨(by decide +kernel), ?_⟩
  refine nm_r (e' := (3 : Int32)) (by decide +kernel) ?_
  refine ⟨rx_in6_3, ?_⟩
  refine br_t (by decide +kernel) ?_
  refine ⟨rx_in6_3, ?_⟩
  refine br_f (by decide +kernel) ?_
  refine ⟨rx_in6_3, ?_⟩
  refine ⟨rx_in6_3, ?_⟩
  refine nm_r (e' := (rx_6 0 0 0 0 0 0)) (rx_u3 rfl (by decide +kernel)) ?_
  refine ⟨rx_in6_3, ?_⟩
  refine br_t (by decide +kernel) ?_
  refine br_t (by decide +kernel) ?_
  refine nm_r (e' := (3 : Int32)) (by decide +kernel) ?_
  refine br_t (by decide +kernel) ?_
  exact hp
theorem rx_com_14 {post : St2 → Prop} {f0_size f0_at f0_state f0_count f0_guessBits f0_fetchAt f0_fetching d17_0 d17_1 d17_2 d17_3 d17_4 d17_5 d18_0 d18_1 d18_2 d18_3 d18_4 d18_5 : Int32} {a1 a2 a3 a4 a5 a7 a10 a11 a13 a14 a19 : Nat → Int32} (hp : post (f0_size, f0_at, f0_state, f0_count, f0_guessBits, f0_fetchAt, f0_fetching, 2, 2, a1, a2, a3, a4, a5, (rx_6 2 5 4 9 0 0), a7, (rx_6 2 2 0 2 0 0), (rx_6 0 0 0 0 0 0), a10, a11, (rx_6 0 0 0 1 0 0), a13, a14, (rx_6 (-1) (-1) (-1) (-1) 0 0), (rx_6 (-1) (-1) (-1) (-1) 0 0), (rx_6 d17_0 d17_1 d17_2 d17_3 d17_4 d17_5), (rx_6 d18_0 d18_1 d18_2 d18_3 d18_4 d18_5), a19)) :
    wpX_complete post (f0_size, f0_at, f0_state, f0_count, f0_guessBits, f0_fetchAt, f0_fetching, 2, 2, a1, a2, a3, a4, a5, (rx_6 2 5 4 9 0 0), a7, (rx_6 2 2 0 1 0 0), (rx_6 0 0 0 0 0 0), a10, a11, (rx_6 0 0 0 0 0 0), a13, a14, (rx_6 (-1) (-1) (-1) (-1) 0 0), (rx_6 (-1) (-1) (-1) (-1) 0 0), (rx_6 d17_0 d17_1 d17_2 d17_3 d17_4 d17_5), (rx_6 d18_0 d18_1 d18_2 d18_3 d18_4 d18_5), a19) := by
  refine ⟨7, ?_⟩
  refine br_f (by decide +kernel) ?_
  refine ⟨(by decide +kernel), ?_⟩
  refine nm_r (e' := (2 : Int32)) (by decide +kernel) ?_
  refine ⟨rx_in6_2, ?_⟩
  refine br_f (by decide +kernel) ?_
  refine nm_r (e' := (1 : Int32)) (by decide +kernel) ?_
  refine br_f (by decide +kernel) ?_
  refine ⟨(by decide +kernel), ?_⟩
  refine nm_r (e' := (3 : Int32)) (by decide +kernel) ?_
  refine ⟨rx_in6_3, ?_⟩
  refine br_t (by decide +kernel) ?_
  refine ⟨rx_in6_3, ?_⟩
  refine br_t (by decide +kernel) ?_
  refine ⟨rx_in6_3, ?_⟩
  refine br_t (by decide +kernel) ?_
  refine br_f (by decide +kernel) ?_
  refine ⟨rx_in6_3, ?_⟩
  refine nm_r (e' := (d17_3 : Int32)) (rx_g3 rfl) ?_
  refine ⟨rx_in6_3, ?_⟩
  refine nm_r (e' := (d18_3 : Int32)) (rx_g3 rfl) ?_
  refine ⟨rx_in6_3, ?_⟩
  refine nm_r (e' := (9 : Int32)) (by decide +kernel) ?_
  refine br_f (by decide +kernel) ?_
  refine br_f (by decide +kernel) ?_
  refine br_f (by decide +kernel) ?_
  refine br_f (by decide +kernel) ?_
  refine br_f (by decide +kernel) ?_
  refine br_f (by decide +kernel) ?_
  refine br_t (by decide +kernel) ?_
  refine ⟨rx_in6_3, ?_⟩
  refine nm_r (e' := (rx_6 0 0 0 1 0 0)) (rx_u3 rfl rfl) ?_
  refine ⟨rx_in6_3, ?_⟩
  refine nm_r (e' := (rx_6 2 2 0 2 0 0)) (rx_u3 rfl rfl) ?_
  refine ⟨7, ?_⟩
  refine br_f (by decide +kernel) ?_
  refine ⟨(by decide +kernel), ?_⟩
  refine nm_r (e' := (2 : Int32)) (by decide +kernel) ?_
  refine ⟨rx_in6_2, ?_⟩
  refine br_f (by decide +kernel) ?_
  refine ⟨rx_in6_2, ?_⟩
  refine br_f (by decide +kernel) ?_
  refine nm_r (e' := (1 : Int32)) (by decide +kernel) ?_
  refine br_f (by decide +kernel) ?_
  refine ⟨(by decide +kernel), ?_⟩
  refine nm_r (e' := (3 : Int32)) (by decide +kernel) ?_
  refine ⟨rx_in6_3, ?_⟩
  refine br_f (by decide +kernel) ?_
  refine ⟨rx_in6_3, ?_⟩
  refine br_f (by decide +kernel) ?_
  refine nm_r (e' := (2 : Int32)) (by decide +kernel) ?_
  refine br_t (by decide +kernel) ?_
  refine nm_r (e' := (2 : Int32)) (by decide +kernel) ?_
  refine br_t (by decide +kernel) ?_
  exact hp
theorem rx_com_15 {post : St2 → Prop} {f0_size f0_at f0_state f0_count f0_guessBits f0_fetchAt f0_fetching : Int32} {a1 a2 a3 a4 a5 a6 a7 a10 a11 a12 a13 a14 a15 a16 a17 a18 a19 : Nat → Int32} (hp : post (f0_size, f0_at, f0_state, f0_count, f0_guessBits, f0_fetchAt, f0_fetching, 2, 2, a1, a2, a3, a4, a5, a6, a7, (rx_6 2 2 1 2 0 0), (rx_6 0 0 1 0 0 0), a10, a11, a12, a13, a14, a15, a16, a17, a18, a19)) :
    wpX_complete post (f0_size, f0_at, f0_state, f0_count, f0_guessBits, f0_fetchAt, f0_fetching, 2, 2, a1, a2, a3, a4, a5, a6, a7, (rx_6 2 2 1 2 0 0), (rx_6 0 0 2 0 0 0), a10, a11, a12, a13, a14, a15, a16, a17, a18, a19) := by
  refine ⟨7, ?_⟩
  refine br_f (by decide +kernel) ?_
  refine ⟨(by decide +kernel), ?_⟩
  refine nm_r (e' := (2 : Int32)) (by decide +kernel) ?_
  refine ⟨rx_in6_2, ?_⟩
  refine br_t (by decide +kernel) ?_
  refine ⟨rx_in6_2, ?_⟩
  refine br_f (by decide +kernel) ?_
  refine ⟨rx_in6_2, ?_⟩
  refine ⟨rx_in6_2, ?_⟩
  refine nm_r (e' := (rx_6 0 0 1 0 0 0)) (rx_u2 rfl (by decide +kernel)) ?_
  refine ⟨rx_in6_2, ?_⟩
  refine br_f (by decide +kernel) ?_
  refine nm_r (e' := (1 : Int32)) (by decide +kernel) ?_
  refine br_f (by decide +kernel) ?_
  refine ⟨(by decide +kernel), ?_⟩
  refine nm_r (e' := (3 : Int32)) (by decide +kernel) ?_
  refine ⟨rx_in6_3, ?_⟩
  refine br_f (by decide +kernel) ?_
  refine nm_r (e' := (2 : Int32)) (by decide +kernel) ?_
  refine br_t (by decide +kernel) ?_
  exact hp
theorem rx_com_16 {post : St2 → Prop} {f0_size f0_at f0_state f0_count f0_guessBits f0_fetchAt f0_fetching d10_0 d10_1 d10_2 d10_3 d10_4 d10_5 d17_0 d17_1 d17_2 d17_3 d17_4 d17_5 d18_0 d18_1 d18_2 d18_3 d18_4 d18_5 : Int32} {a1 a2 a3 a4 a5 a7 a11 a13 a14 a19 : Nat → Int32} (h1 : 0 ≤ d17_2) (hp : post (f0_size, f0_at, f0_state, f0_count, f0_guessBits, f0_fetchAt, f0_fetching, 2, 2, a1, a2, a3, a4, a5, (rx_6 2 5 4 9 0 0), a7, (rx_6 2 2 2 2 0 0), (rx_6 0 0 0 0 0 0), (rx_6 d10_0 d10_1 (a5 (d17_2 &&& 7).toNatClampNeg) d10_3 d10_4 d10_5), a11, (rx_6 0 0 0 1 0 0), a13, a14, (rx_6 (-1) (-1) (-1) (-1) 0 0), (rx_6 (-1) (-1) (-1) (-1) 0 0), (rx_6 d17_0 d17_1 d17_2 d17_3 d17_4 d17_5), (rx_6 d18_0 d18_1 d18_2 d18_3 d18_4 d18_5), a19)) :
    wpX_complete post (f0_size, f0_at, f0_state, f0_count, f0_guessBits, f0_fetchAt, f0_fetching, 2, 2, a1, a2, a3, a4, a5, (rx_6 2 5 4 9 0 0), a7, (rx_6 2 2 1 2 0 0), (rx_6 0 0 1 0 0 0), (rx_6 d10_0 d10_1 d10_2 d10_3 d10_4 d10_5), a11, (rx_6 0 0 0 1 0 0), a13, a14, (rx_6 (-1) (-1) (-1) (-1) 0 0), (rx_6 (-1) (-1) (-1) (-1) 0 0), (rx_6 d17_0 d17_1 d17_2 d17_3 d17_4 d17_5), (rx_6 d18_0 d18_1 d18_2 d18_3 d18_4 d18_5), a19) := by
  refine ⟨7, ?_⟩
  refine br_f (by decide +kernel) ?_
  refine ⟨(by decide +kernel), ?_⟩
  refine nm_r (e' := (2 : Int32)) (by decide +kernel) ?_
  refine ⟨rx_in6_2, ?_⟩
  refine br_t (by decide +kernel) ?_
  refine ⟨rx_in6_2, ?_⟩
  refine br_f (by decide +kernel) ?_
  refine ⟨rx_in6_2, ?_⟩
  refine ⟨rx_in6_2, ?_⟩
  refine nm_r (e' := (rx_6 0 0 0 0 0 0)) (rx_u2 rfl (by decide +kernel)) ?_
  refine ⟨rx_in6_2, ?_⟩
  refine br_t (by decide +kernel) ?_
  refine br_f (by decide +kernel) ?_
  refine ⟨rx_in6_2, ?_⟩
  refine nm_r (e' := (d17_2 : Int32)) (rx_g2 rfl) ?_
  refine ⟨rx_in6_2, ?_⟩
  refine nm_r (e' := (d18_2 : Int32)) (rx_g2 rfl) ?_
  refine ⟨rx_in6_2, ?_⟩
  refine nm_r (e' := (4 : Int32)) (by decide +kernel) ?_
  refine br_f (by decide +kernel) ?_
  refine br_f (by decide +kernel) ?_
  refine br_f (by decide +kernel) ?_
  refine br_t (by decide +kernel) ?_
  refine br_t h1 ?_
  refine ⟨rx_in6_2, ?_⟩
  refine nm_r (e' := (rx_6 0 0 0 1 0 0)) (rx_u2 rfl (by decide +kernel)) ?_
  refine ⟨(rx_and7 d17_2), ?_⟩
  refine ⟨rx_in6_2, ?_⟩
  refine nm_r (e' := (rx_6 d10_0 d10_1 (a5 (d17_2 &&& 7).toNatClampNeg) d10_3 d10_4 d10_5)) (rx_u2 rfl rfl) ?_
  refine ⟨rx_in6_2, ?_⟩
  refine nm_r (e' := (rx_6 2 2 2 2 0 0)) (rx_u2 rfl rfl) ?_
  refine ⟨7, ?_⟩
  refine br_f (by decide +kernel) ?_
  refine ⟨(by decide +kernel), ?_⟩
  refine nm_r (e' := (2 : Int32)) (by decide +kernel) ?_
  refine ⟨rx_in6_2, ?_⟩
  refine br_f (by decide +kernel) ?_
  refine ⟨rx_in6_2, ?_⟩
  refine br_f (by decide +kernel) ?_
  refine nm_r (e' := (1 : Int32)) (by decide +kernel) ?_
  refine br_f (by decide +kernel) ?_
  refine ⟨(by decide +kernel), ?_⟩
  refine nm_r (e' := (3 : Int32)) (by decide +kernel) ?_
  refine ⟨rx_in6_3, ?_⟩
  refine br_f (by decide +kernel) ?_
  refine ⟨rx_in6_3, ?_⟩
  refine br_f (by decide +kernel) ?_
  refine nm_r (e' := (2 : Int32)) (by decide +kernel) ?_
  refine br_t (by decide +kernel) ?_
  refine nm_r (e' := (1 : Int32)) (by decide +kernel) ?_
  refine br_f (by decide +kernel) ?_
  refine ⟨(by decide +kernel), ?_⟩
  refine nm_r (e' := (3 : Int32)) (by decide +kernel) ?_
  refine ⟨rx_in6_3, ?_⟩
  refine br_f (by decide +kernel) ?_
  refine nm_r (e' := (2 : Int32)) (by decide +kernel) ?_
  refine br_t (by decide +kernel) ?_
  exact hp
theorem rx_com_17 {post : St2 → Prop} {f0_size f0_at f0_state f0_count f0_guessBits f0_fetchAt f0_fetching d11_0 d11_1 d11_2 d11_3 d11_4 d11_5 d17_0 d17_1 d17_2 d17_3 d17_4 d17_5 d18_0 d18_1 d18_2 d18_3 d18_4 d18_5 : Int32} {a1 a2 a3 a4 a5 a7 a10 a13 a14 a19 : Nat → Int32} (h1 : ¬ 0 ≤ d18_1) (hp : post (f0_size, f0_at, f0_state, f0_count, f0_guessBits, f0_fetchAt, f0_fetching, 1, 3, a1, a2, a3, a4, a5, (rx_6 2 5 4 9 0 0), a7, (rx_6 2 2 0 1 0 0), (rx_6 0 0 0 0 0 0), a10, (rx_6 d11_0 (d18_1 &&& 7) d11_2 d11_3 d11_4 d11_5), (rx_6 0 1 0 0 0 0), a13, a14, (rx_6 (-1) (-1) (-1) (-1) 0 0), (rx_6 (-1) (-1) (-1) (-1) 0 0), (rx_6 d17_0 d17_1 d17_2 d17_3 d17_4 d17_5), (rx_6 d18_0 d18_1 d18_2 d18_3 d18_4 d18_5), a19)) :
    wpX_complete post (f0_size, f0_at, f0_state, f0_count, f0_guessBits, f0_fetchAt, f0_fetching, 1, 3, a1, a2, a3, a4, a5, (rx_6 2 5 4 9 0 0), a7, (rx_6 2 1 0 1 0 0), (rx_6 0 1 0 1 0 0), a10, (rx_6 d11_0 d11_1 d11_2 d11_3 d11_4 d11_5), (rx_6 0 0 0 0 0 0), a13, a14, (rx_6 (-1) (-1) (-1) (-1) 0 0), (rx_6 (-1) (-1) (-1) (-1) 0 0), (rx_6 d17_0 d17_1 d17_2 d17_3 d17_4 d17_5), (rx_6 d18_0 d18_1 d18_2 d18_3 d18_4 d18_5), a19) := by
  refine ⟨7, ?_⟩
  refine br_f (by decide +kernel) ?_
  refine ⟨(by decide +kernel), ?_⟩
  refine nm_r (e' := (1 : Int32)) (by decide +kernel) ?_
  refine ⟨rx_in6_1, ?_⟩
  refine br_t (by decide +kernel) ?_
  refine ⟨rx_in6_1, ?_⟩
  refine br_f (by decide +kernel) ?_
  refine ⟨rx_in6_1, ?_⟩
  refine ⟨rx_in6_1, ?_⟩
  refine nm_r (e' := (rx_6 0 0 0 1 0 0)) (rx_u1 rfl (by decide +kernel)) ?_
  refine ⟨rx_in6_1, ?_⟩
  refine br_t (by decide +kernel) ?_
  refine br_f (by decide +kernel) ?_
  refine ⟨rx_in6_1, ?_⟩
  refine nm_r (e' := (d17_1 : Int32)) (rx_g1 rfl) ?_
  refine ⟨rx_in6_1, ?_⟩
  refine nm_r (e' := (d18_1 : Int32)) (rx_g1 rfl) ?_
  refine ⟨rx_in6_1, ?_⟩
  refine nm_r (e' := (5 : Int32)) (by decide +kernel) ?_
  refine br_f (by decide +kernel) ?_
  refine br_f (by decide +kernel) ?_
  refine br_f (by decide +kernel) ?_
  refine br_f (by decide +kernel) ?_
  refine br_t (by decide +kernel) ?_
  refine br_f h1 ?_
  refine ⟨rx_in6_1, ?_⟩
  refine nm_r (e' := (rx_6 0 1 0 0 0 0)) (rx_u1 rfl (by decide +kernel)) ?_
  refine ⟨rx_in6_1, ?_⟩
  refine nm_r (e' := (rx_6 d11_0 (d18_1 &&& 7) d11_2 d11_3 d11_4 d11_5)) (rx_u1 rfl rfl) ?_
  refine ⟨rx_in6_1, ?_⟩
  refine nm_r (e' := (rx_6 2 2 0 1 0 0)) (rx_u1 rfl rfl) ?_
  refine ⟨7, ?_⟩
  refine br_f (by decide +kernel) ?_
  refine ⟨(by decide +kernel), ?_⟩
  refine nm_r (e' := (1 : Int32)) (by decide +kernel) ?_
  refine ⟨rx_in6_1, ?_⟩
  refine br_f (by decide +kernel) ?_
  refine ⟨rx_in6_1, ?_⟩
  refine br_f (by decide +kernel) ?_
  refine nm_r (e' := (1 : Int32)) (by decide +kernel) ?_
  refine br_f (by decide +kernel) ?_
  refine ⟨(by decide +kernel), ?_⟩
  refine nm_r (e' := (2 : Int32)) (by decide +kernel) ?_
  refine ⟨rx_in6_2, ?_⟩
  refine br_f (by decide +kernel) ?_
  refine ⟨rx_in6_2, ?_⟩
  refine br_f (by decide +kernel) ?_
  refine nm_r (e' := (2 : Int32)) (by decide +kernel) ?_
  refine br_f (by decide +kernel) ?_
  refine ⟨(by decide +kernel), ?_⟩
  refine nm_r (e' := (3 : Int32)) (by decide +kernel) ?_
  refine ⟨rx_in6_3, ?_⟩
  refine br_f (by decide +kernel) ?_
  refine ⟨rx_in6_3, ?_⟩
  refine br_f (by decide +kernel) ?_
  refine nm_r (e' := (3 : Int32)) (by decide +kernel) ?_
  refine br_t (by decide +kernel) ?_
  refine nm_r (e' := (1 : Int32)) (by decide +kernel) ?_
  refine br_f (by decide +kernel) ?_
  refine ⟨(by decide +kernel), ?_⟩
  refine nm_r (e' := (2 : Int32)) (by decide +kernel) ?_
  refine ⟨rx_in6_2, ?_⟩
  refine br_f (by decide +kernel) ?_
  refine nm_r (e' := (2 : Int32)) (by decide +kernel) ?_
  refine br_f (by decide +kernel) ?_
  refine ⟨(by decide +kernel), ?_⟩
  refine nm_r (e' := (3 : Int32)) (by decide +kernel) ?_
  refine ⟨rx_in6_3, ?_⟩
  refine br_t (by decide +kernel) ?_
  refine ⟨rx_in6_3, ?_⟩
  refine br_f (by decide +kernel) ?_
  refine ⟨rx_in6_3, ?_⟩
  refine ⟨rx_in6_3, ?_⟩
  refine nm_r (e' := (rx_6 0 0 0 0 0 0)) (rx_u3 rfl (by decide +kernel)) ?_
  refine ⟨rx_in6_3, ?_⟩
  refine br_t (by decide +kernel) ?_
  refine br_t (by decide +kernel) ?_
  refine nm_r (e' := (3 : Int32)) (by decide +kernel) ?_
  refine br_t (by decide +kernel) ?_
  exact hp
theorem rx_com_18 {post : St2 → Prop} {f0_size f0_at f0_state f0_count f0_guessBits f0_fetchAt f0_fetching : Int32} {a1 a2 a3 a4 a5 a6 a7 a10 a11 a12 a13 a14 a15 a16 a17 a18 a19 : Nat → Int32} (hp : post (f0_size, f0_at, f0_state, f0_count, f0_guessBits, f0_fetchAt, f0_fetching, 0, 2, a1, a2, a3, a4, a5, a6, a7, (rx_6 1 0 0 0 0 0), (rx_6 4 0 0 0 0 0), a10, a11, a12, a13, a14, a15, a16, a17, a18, a19)) :
    wpX_complete post (f0_size, f0_at, f0_state, f0_count, f0_guessBits, f0_fetchAt, f0_fetching, 0, 2, a1, a2, a3, a4, a5, a6, a7, (rx_6 1 0 0 0 0 0), (rx_6 5 0 0 0 0 0), a10, a11, a12, a13, a14, a15, a16, a17, a18, a19) := by
  refine ⟨7, ?_⟩
  refine br_f (by decide +kernel) ?_
  refine ⟨(by decide +kernel), ?_⟩
  refine nm_r (e' := (0 : Int32)) (by decide +kernel) ?_
  refine ⟨rx_in6_0, ?_⟩
  refine br_t (by decide +kernel) ?_
  refine ⟨rx_in6_0, ?_⟩
  refine br_f (by decide +kernel) ?_
  refine ⟨rx_in6_0, ?_⟩
  refine ⟨rx_in6_0, ?_⟩
  refine nm_r (e' := (rx_6 4 0 0 0 0 0)) (rx_u0 rfl (by decide +kernel)) ?_
  refine ⟨rx_in6_0, ?_⟩
  refine br_f (by decide +kernel) ?_
  refine nm_r (e' := (1 : Int32)) (by decide +kernel) ?_
  refine br_f (by decide +kernel) ?_
  refine ⟨(by decide +kernel), ?_⟩
  refine nm_r (e' := (1 : Int32)) (by decide +kernel) ?_
  refine ⟨rx_in6_1, ?_⟩
  refine br_f (by decide +kernel) ?_
  refine nm_r (e' := (2 : Int32)) (by decide +kernel) ?_
  refine br_t (by decide +kernel) ?_
  exact hp
theorem rx_com_19 {post : St2 → Prop} {f0_size f0_at f0_state f0_count f0_guessBits f0_fetchAt f0_fetching : Int32} {a1 a2 a3 a4 a5 a6 a7 a10 a11 a12 a13 a14 a15 a16 a17 a18 a19 : Nat → Int32} (hp : post (f0_size, f0_at, f0_state, f0_count, f0_guessBits, f0_fetchAt, f0_fetching, 0, 3, a1, a2, a3, a4, a5, a6, a7, (rx_6 1 0 0 0 0 0), (rx_6 3 0 0 0 0 0), a10, a11, a12, a13, a14, a15, a16, a17, a18, a19)) :
    wpX_complete post (f0_size, f0_at, f0_state, f0_count, f0_guessBits, f0_fetchAt, f0_fetching, 0, 3, a1, a2, a3, a4, a5, a6, a7, (rx_6 1 0 0 0 0 0), (rx_6 4 0 0 0 0 0), a10, a11, a12, a13, a14, a15, a16, a17, a18, a19) := by
  refine ⟨7, ?_⟩
  refine br_f (by decide +kernel) ?_
  refine ⟨(by decide +kernel), ?_⟩
  refine nm_r (e' := (0 : Int32)) (by decide +kernel) ?_
  refine ⟨rx_in6_0, ?_⟩
  refine br_t (by decide +kernel) ?_
  refine ⟨rx_in6_0, ?_⟩
  refine br_f (by decide +kernel) ?_
  refine ⟨rx_in6_0, ?_⟩
  refine ⟨rx_in6_0, ?_⟩
  refine nm_r (e' := (rx_6 3 0 0 0 0 0)) (rx_u0 rfl (by decide +kernel)) ?_
  refine ⟨rx_in6_0, ?_⟩
  refine br_f (by decide +kernel) ?_
  refine nm_r (e' := (1 : Int32)) (by decide +kernel) ?_
  refine br_f (by decide +kernel) ?_
  refine ⟨(by decide +kernel), ?_⟩
  refine nm_r (e' := (1 : Int32)) (by decide +kernel) ?_
  refine ⟨rx_in6_1, ?_⟩
  refine br_f (by decide +kernel) ?_
  refine nm_r (e' := (2 : Int32)) (by decide +kernel) ?_
  refine br_f (by decide +kernel) ?_
  refine ⟨(by decide +kernel), ?_⟩
  refine nm_r (e' := (2 : Int32)) (by decide +kernel) ?_
  refine ⟨rx_in6_2, ?_⟩
  refine br_f (by decide +kernel) ?_
  refine nm_r (e' := (3 : Int32)) (by decide +kernel) ?_
  refine br_t (by decide +kernel) ?_
  exact hp
theorem rx_com_20 {post : St2 → Prop} {f0_size f0_at f0_state f0_count f0_guessBits f0_fetchAt f0_fetching : Int32} {a1 a2 a3 a4 a5 a6 a7 a10 a11 a12 a13 a14 a15 a16 a17 a18 a19 : Nat → Int32} (hp : post (f0_size, f0_at, f0_state, f0_count, f0_guessBits, f0_fetchAt, f0_fetching, 0, 4, a1, a2, a3, a4, a5, a6, a7, (rx_6 1 0 0 0 0 0), (rx_6 2 0 0 0 0 0), a10, a11, a12, a13, a14, a15, a16, a17, a18, a19)) :
    wpX_complete post (f0_size, f0_at, f0_state, f0_count, f0_guessBits, f0_fetchAt, f0_fetching, 0, 4, a1, a2, a3, a4, a5, a6, a7, (rx_6 1 0 0 0 0 0), (rx_6 3 0 0 0 0 0), a10, a11, a12, a13, a14, a15, a16, a17, a18, a19) := by
  refine ⟨7, ?_⟩
  refine br_f (by decide +kernel) ?_
  refine ⟨(by decide +kernel), ?_⟩
  refine nm_r (e' := (0 : Int32)) (by decide +kernel) ?_
  refine ⟨rx_in6_0, ?_⟩
  refine br_t (by decide +kernel) ?_
  refine ⟨rx_in6_0, ?_⟩
  refine br_f (by decide +kernel) ?_
  refine ⟨rx_in6_0, ?_⟩
  refine ⟨rx_in6_0, ?_⟩
  refine nm_r (e' := (rx_6 2 0 0 0 0 0)) (rx_u0 rfl (by decide +kernel)) ?_
  refine ⟨rx_in6_0, ?_⟩
  refine br_f (by decide +kernel) ?_
  refine nm_r (e' := (1 : Int32)) (by decide +kernel) ?_
  refine br_f (by decide +kernel) ?_
  refine ⟨(by decide +kernel), ?_⟩
  refine nm_r (e' := (1 : Int32)) (by decide +kernel) ?_
  refine ⟨rx_in6_1, ?_⟩
  refine br_f (by decide +kernel) ?_
  refine nm_r (e' := (2 : Int32)) (by decide +kernel) ?_
  refine br_f (by decide +kernel) ?_
  refine ⟨(by decide +kernel), ?_⟩
  refine nm_r (e' := (2 : Int32)) (by decide +kernel) ?_
  refine ⟨rx_in6_2, ?_⟩
  refine br_f (by decide +kernel) ?_
  refine nm_r (e' := (3 : Int32)) (by decide +kernel) ?_
  refine br_f (by decide +kernel) ?_
  refine ⟨(by decide +kernel), ?_⟩
  refine nm_r (e' := (3 : Int32)) (by decide +kernel) ?_
  refine ⟨rx_in6_3, ?_⟩
  refine br_f (by decide +kernel) ?_
  refine nm_r (e' := (4 : Int32)) (by decide +kernel) ?_
  refine br_t (by decide +kernel) ?_
  exact hp
theorem rx_com_21 {post : St2 → Prop} {f0_size f0_at f0_state f0_count f0_guessBits f0_fetchAt f0_fetching d17_0 d17_1 d17_2 d17_3 d17_4 d17_5 d18_0 d18_1 d18_2 d18_3 d18_4 d18_5 : Int32} {a1 a2 a3 a4 a5 a7 a10 a11 a13 a14 a19 : Nat → Int32} (hp : post (f0_size, f0_at, f0_state, f0_count, f0_guessBits, f0_fetchAt, f0_fetching, 0, 4, a1, a2, a3, a4, a5, (rx_6 3 5 4 9 0 0), a7, (rx_6 1 0 0 2 0 0), (rx_6 1 0 0 0 0 0), a10, a11, (rx_6 0 0 0 1 0 0), a13, a14, (rx_6 (-1) 0 (-1) (-1) 0 0), (rx_6 (-1) (-1) (-1) (-1) 0 0), (rx_6 d17_0 d17_1 d17_2 d17_3 d17_4 d17_5), (rx_6 d18_0 d18_1 d18_2 d18_3 d18_4 d18_5), a19)) :
    wpX_complete post (f0_size, f0_at, f0_state, f0_count, f0_guessBits, f0_fetchAt, f0_fetching, 0, 4, a1, a2, a3, a4, a5, (rx_6 3 5 4 9 0 0), a7, (rx_6 1 0 0 1 0 0), (rx_6 2 0 0 1 0 0), a10, a11, (rx_6 0 0 0 0 0 0), a13, a14, (rx_6 (-1) 0 (-1) (-1) 0 0), (rx_6 (-1) (-1) (-1) (-1) 0 0), (rx_6 d17_0 d17_1 d17_2 d17_3 d17_4 d17_5), (rx_6 d18_0 d18_1 d18_2 d18_3 d18_4 d18_5), a19) := by
  refine ⟨7, ?_⟩
  refine br_f (by decide +kernel) ?_
  refine ⟨(by decide +kernel), ?_⟩
  refine nm_r (e' := (0 : Int32)) (by decide +kernel) ?_
  refine ⟨rx_in6_0, ?_⟩
  refine br_t (by decide +kernel) ?_
  refine ⟨rx_in6_0, ?_⟩
  refine br_f (by decide +kernel) ?_
  refine ⟨rx_in6_0, ?_⟩
  refine ⟨rx_in6_0, ?_⟩
  refine nm_r (e' := (rx_6 1 0 0 1 0 0)) (rx_u0 rfl (by decide +kernel)) ?_
  refine ⟨rx_in6_0, ?_⟩
  refine br_f (by decide +kernel) ?_
  refine nm_r (e' := (1 : Int32)) (by decide +kernel) ?_
  refine br_f (by decide +kernel) ?_
  refine ⟨(by decide +kernel), ?_⟩
  refine nm_r (e' := (1 : Int32)) (by decide +kernel) ?_
  refine ⟨rx_in6_1, ?_⟩
  refine br_f (by decide +kernel) ?_
  refine nm_r (e' := (2 : Int32)) (by decide +kernel) ?_
  refine br_f (by decide +kernel) ?_
  refine ⟨(by decide +kernel), ?_⟩
  refine nm_r (e' := (2 : Int32)) (by decide +kernel) ?_
  refine ⟨rx_in6_2, ?_⟩
  refine br_f (by decide +kernel) ?_
  refine nm_r (e' := (3 : Int32)) (by decide +kernel) ?_
  refine br_f (by decide +kernel) ?_
  refine ⟨(by decide +kernel), ?_⟩
  refine nm_r (e' := (3 : Int32)) (by decide +kernel) ?_
  refine ⟨rx_in6_3, ?_⟩
  refine br_t (by decide +kernel) ?_
  refine ⟨rx_in6_3, ?_⟩
  refine br_f (by decide +kernel) ?_
  refine ⟨rx_in6_3, ?_⟩
  refine ⟨rx_in6_3, ?_⟩
  refine nm_r (e' := (rx_6 1 0 0 0 0 0)) (rx_u3 rfl (by decide +kernel)) ?_
  refine ⟨rx_in6_3, ?_⟩
  refine br_t (by decide +kernel) ?_
  refine br_f (by decide +kernel) ?_
  refine ⟨rx_in6_3, ?_⟩
  refine nm_r (e' := (d17_3 : Int32)) (rx_g3 rfl) ?_
  refine ⟨rx_in6_3, ?_⟩
  refine nm_r (e' := (d18_3 : Int32)) (rx_g3 rfl) ?_
  refine ⟨rx_in6_3, ?_⟩
  refine nm_r (e' := (9 : Int32)) (by decide +kernel) ?_
  refine br_f (by decide +kernel) ?_
  refine br_f (by decide +kernel) ?_
  refine br_f (by decide +kernel) ?_
  refine br_f (by decide +kernel) ?_
  refine br_f (by decide +kernel) ?_
  refine br_f (by decide +kernel) ?_
  refine br_t (by decide +kernel) ?_
  refine ⟨rx_in6_3, ?_⟩
  refine nm_r (e' := (rx_6 0 0 0 1 0 0)) (rx_u3 rfl rfl) ?_
  refine ⟨rx_in6_3, ?_⟩
  refine nm_r (e' := (rx_6 1 0 0 2 0 0)) (rx_u3 rfl rfl) ?_
  refine ⟨7, ?_⟩
  refine br_f (by decide +kernel) ?_
  refine ⟨(by decide +kernel), ?_⟩
  refine nm_r (e' := (0 : Int32)) (by decide +kernel) ?_
  refine ⟨rx_in6_0, ?_⟩
  refine br_f (by decide +kernel) ?_
  refine ⟨rx_in6_0, ?_⟩
  refine br_f (by decide +kernel) ?_
  refine nm_r (e' := (1 : Int32)) (by decide +kernel) ?_
  refine br_f (by decide +kernel) ?_
  refine ⟨(by decide +kernel), ?_⟩
  refine nm_r (e' := (1 : Int32)) (by decide +kernel) ?_
  refine ⟨rx_in6_1, ?_⟩
  refine br_f (by decide +kernel) ?_
  refine ⟨rx_in6_1, ?_⟩
  refine br_f (by decide +kernel) ?_
  refine nm_r (e' := (2 : Int32)) (by decide +kernel) ?_
  refine br_f (by decide +kernel) ?_
  refine ⟨(by decide +kernel), ?_⟩
  refine nm_r (e' := (2 : Int32)) (by decide +kernel) ?_
  refine ⟨rx_in6_2, ?_⟩
  refine br_f (by decide +kernel) ?_
  refine ⟨rx_in6_2, ?_⟩
  refine br_f (by decide +kernel) ?_
  refine nm_r (e' := (3 : Int32)) (by decide +kernel) ?_
  refine br_f (by decide +kernel) ?_
  refine ⟨(by decide +kernel), ?_⟩
  refine nm_r (e' := (3 : Int32)) (by decide +kernel) ?_
  refine ⟨rx_in6_3, ?_⟩
  refine br_f (by decide +kernel) ?_
  refine ⟨rx_in6_3, ?_⟩
  refine br_f (by decide +kernel) ?_
  refine nm_r (e' := (4 : Int32)) (by decide +kernel) ?_
  refine br_t (by decide +kernel) ?_
  refine nm_r (e' := (4 : Int32)) (by decide +kernel) ?_
  refine br_t (by decide +kernel) ?_
  exact hp
theorem rx_com_22 {post : St2 → Prop} {f0_size f0_at f0_state f0_count f0_guessBits f0_fetchAt f0_fetching d10_0 d10_1 d10_2 d10_3 d10_4 d10_5 d17_0 d17_1 d17_2 d17_3 d17_4 d17_5 d18_0 d18_1 d18_2 d18_3 d18_4 d18_5 : Int32} {a1 a2 a3 a4 a5 a7 a11 a13 a14 a19 : Nat → Int32} (h1 : d18_0 = 0) (hp : post (f0_size, f0_at, f0_state, f0_count, f0_guessBits, f0_fetchAt, f0_fetching, 0, 4, a1, a2, a3, a4, a5, (rx_6 3 5 4 9 0 0), a7, (rx_6 2 0 0 2 0 0), (rx_6 0 0 0 0 0 0), (rx_6 0 d10_1 d10_2 d10_3 d10_4 d10_5), a11, (rx_6 1 0 0 1 0 0), a13, a14, (rx_6 (-1) (-1) (-1) (-1) 0 0), (rx_6 (-1) (-1) (-1) (-1) 0 0), (rx_6 d17_0 0 d17_2 d17_3 d17_4 d17_5), (rx_6 d18_0 d18_1 d18_2 d18_3 d18_4 d18_5), a19)) :
    wpX_complete post (f0_size, f0_at, f0_state, f0_count, f0_guessBits, f0_fetchAt, f0_fetching, 0, 4, a1, a2, a3, a4, a5, (rx_6 3 5 4 9 0 0), a7, (rx_6 1 0 0 2 0 0), (rx_6 1 0 0 0 0 0), (rx_6 d10_0 d10_1 d10_2 d10_3 d10_4 d10_5), a11, (rx_6 0 0 0 1 0 0), a13, a14, (rx_6 (-1) 0 (-1) (-1) 0 0), (rx_6 (-1) (-1) (-1) (-1) 0 0), (rx_6 d17_0 d17_1 d17_2 d17_3 d17_4 d17_5), (rx_6 d18_0 d18_1 d18_2 d18_3 d18_4 d18_5), a19) := by
  refine ⟨7, ?_⟩
  refine br_f (by decide +kernel) ?_
  refine ⟨(by decide +kernel), ?_⟩
  refine nm_r (e' := (0 : Int32)) (by decide +kernel) ?_
  refine ⟨rx_in6_0, ?_⟩
  refine br_t (by decide +kernel) ?_
  refine ⟨rx_in6_0, ?_⟩
  refine br_f (by decide +kernel) ?_
  refine ⟨rx_in6_0, ?_⟩
  refine ⟨rx_in6_0, ?_⟩
  refine nm_r (e' := (rx_6 0 0 0 0 0 0)) (rx_u0 rfl (by decide +kernel)) ?_
  refine ⟨rx_in6_0, ?_⟩
  refine br_t (by decide +kernel) ?_
  refine br_f (by decide +kernel) ?_
  refine ⟨rx_in6_0, ?_⟩
  refine nm_r (e' := (d17_0 : Int32)) (rx_g0 rfl) ?_
  refine ⟨rx_in6_0, ?_⟩
  refine nm_r (e' := (d18_0 : Int32)) (rx_g0 rfl) ?_
  refine ⟨rx_in6_0, ?_⟩
  refine nm_r (e' := (3 : Int32)) (by decide +kernel) ?_
  refine br_f (by decide +kernel) ?_
  refine br_f (by decide +kernel) ?_
  refine br_t (by decide +kernel) ?_
  refine br_t h1 ?_
  refine ⟨rx_in6_0, ?_⟩
  refine nm_r (e' := (rx_6 1 0 0 1 0 0)) (rx_u0 rfl (by decide +kernel)) ?_
  refine br_t h1 ?_
  refine ⟨rx_in6_0, ?_⟩
  refine nm_r (e' := (rx_6 0 d10_1 d10_2 d10_3 d10_4 d10_5)) (rx_u0 rfl rfl) ?_
  refine ⟨rx_in6_0, ?_⟩
  refine nm_r (e' := (rx_6 2 0 0 2 0 0)) (rx_u0 rfl rfl) ?_
  refine ⟨7, ?_⟩
  refine br_f (by decide +kernel) ?_
  refine ⟨(by decide +kernel), ?_⟩
  refine nm_r (e' := (0 : Int32)) (by decide +kernel) ?_
  refine ⟨rx_in6_0, ?_⟩
  refine br_f (by decide +kernel) ?_
  refine ⟨rx_in6_0, ?_⟩
  refine br_f (by decide +kernel) ?_
  refine nm_r (e' := (1 : Int32)) (by decide +kernel) ?_
  refine br_f (by decide +kernel) ?_
  refine ⟨(by decide +kernel), ?_⟩
  refine nm_r (e' := (1 : Int32)) (by decide +kernel) ?_
  refine ⟨rx_in6_1, ?_⟩
  refine br_t (by decide +kernel) ?_
  refine ⟨rx_in6_1, ?_⟩
  refine nm_r (e' := (rx_6 (-1) (-1) (-1) (-1) 0 0)) (rx_u1 rfl rfl) ?_
  refine ⟨rx_in6_0, ?_⟩
  refine ⟨rx_in6_1, ?_⟩
  refine nm_r (e' := (rx_6 d17_0 0 d17_2 d17_3 d17_4 d17_5)) (rx_u1 rfl (rx_g0 rfl)) ?_
  refine ⟨rx_in6_1, ?_⟩
  refine br_f (by decide +kernel) ?_
  refine nm_r (e' := (2 : Int32)) (by decide +kernel) ?_
  refine br_f (by decide +kernel) ?_
  refine ⟨(by decide +kernel), ?_⟩
  refine nm_r (e' := (2 : Int32)) (by decide +kernel) ?_
  refine ⟨rx_in6_2, ?_⟩
  refine br_f (by decide +kernel) ?_
  refine ⟨rx_in6_2, ?_⟩
  refine br_f (by decide +kernel) ?_
  refine nm_r (e' := (3 : Int32)) (by decide +kernel) ?_
  refine br_f (by decide +kernel) ?_
  refine ⟨(by decide +kernel), ?_⟩
  refine nm_r (e' := (3 : Int32)) (by decide +kernel) ?_
  refine ⟨rx_in6_3, ?_⟩
  refine br_f (by decide +kernel) ?_
  refine ⟨rx_in6_3, ?_⟩
  refine br_f (by decide +kernel) ?_
  refine nm_r (e' := (4 : Int32)) (by decide +kernel) ?_
  refine br_t (by decide +kernel) ?_
  refine nm_r (e' := (1 : Int32)) (by decide +kernel) ?_
  refine br_f (by decide +kernel) ?_
  refine ⟨(by decide +kernel), ?_⟩
  refine nm_r (e' := (1 : Int32)) (by decide +kernel) ?_
  refine ⟨rx_in6_1, ?_⟩
  refine br_f (by decide +kernel) ?_
  refine nm_r (e' := (2 : Int32)) (by decide +kernel) ?_
  refine br_f (by decide +kernel) ?_
  refine ⟨(by decide +kernel), ?_⟩
  refine nm_r (e' := (2 : Int32)) (by decide +kernel) ?_
  refine ⟨rx_in6_2, ?_⟩
  refine br_f (by decide +kernel) ?_
  refine nm_r (e' := (3 : Int32)) (by decide +kernel) ?_
  refine br_f (by decide +kernel) ?_
  refine ⟨(by decide +kernel), ?_⟩
  refine nm_r (e' := (3 : Int32)) (by decide +kernel) ?_
  refine ⟨rx_in6_3, ?_⟩
  refine br_f (by decide +kernel) ?_
  refine nm_r (e' := (4 : Int32)) (by decide +kernel) ?_
  refine br_t (by decide +kernel) ?_
  exact hp
theorem rx_com_23 {post : St2 → Prop} {f0_size f0_at f0_state f0_count f0_guessBits f0_fetchAt f0_fetching d10_0 d10_1 d10_2 d10_3 d10_4 d10_5 d17_0 d17_1 d17_2 d17_3 d17_4 d17_5 d18_0 d18_1 d18_2 d18_3 d18_4 d18_5 : Int32} {a1 a2 a3 a4 a5 a7 a11 a13 a14 a19 : Nat → Int32} (h1 : ¬ d18_0 = 0) (hp : post (f0_size, f0_at, f0_state, f0_count, f0_guessBits, f0_fetchAt, f0_fetching, 0, 4, a1, a2, a3, a4, a5, (rx_6 3 5 4 9 0 0), a7, (rx_6 2 0 0 2 0 0), (rx_6 0 0 0 0 0 0), (rx_6 (d17_0 / d18_0) d10_1 d10_2 d10_3 d10_4 d10_5), a11, (rx_6 0 0 0 1 0 0), a13, a14, (rx_6 (-1) (-1) (-1) (-1) 0 0), (rx_6 (-1) (-1) (-1) (-1) 0 0), (rx_6 d17_0 (d17_0 / d18_0) d17_2 d17_3 d17_4 d17_5), (rx_6 d18_0 d18_1 d18_2 d18_3 d18_4 d18_5), a19)) :
    wpX_complete post (f0_size, f0_at, f0_state, f0_count, f0_guessBits, f0_fetchAt, f0_fetching, 0, 4, a1, a2, a3, a4, a5, (rx_6 3 5 4 9 0 0), a7, (rx_6 1 0 0 2 0 0), (rx_6 1 0 0 0 0 0), (rx_6 d10_0 d10_1 d10_2 d10_3 d10_4 d10_5), a11, (rx_6 0 0 0 1 0 0), a13, a14, (rx_6 (-1) 0 (-1) (-1) 0 0), (rx_6 (-1) (-1) (-1) (-1) 0 0), (rx_6 d17_0 d17_1 d17_2 d17_3 d17_4 d17_5), (rx_6 d18_0 d18_1 d18_2 d18_3 d18_4 d18_5), a19) := by
  refine ⟨7, ?_⟩
  refine br_f (by decide +kernel) ?_
  refine ⟨(by decide +kernel), ?_⟩
  refine nm_r (e' := (0 : Int32)) (by decide +kernel) ?_
  refine ⟨rx_in6_0, ?_⟩
  refine br_t (by decide +kernel) ?_
  refine ⟨rx_in6_0, ?_⟩
  refine br_f (by decide +kernel) ?_
  refine ⟨rx_in6_0, ?_⟩
  refine ⟨rx_in6_0, ?_⟩
  refine nm_r (e' := (rx_6 0 0 0 0 0 0)) (rx_u0 rfl (by decide +kernel)) ?_
  refine ⟨rx_in6_0, ?_⟩
  refine br_t (by decide +kernel) ?_
  refine br_f (by decide +kernel) ?_
  refine ⟨rx_in6_0, ?_⟩
  refine nm_r (e' := (d17_0 : Int32)) (rx_g0 rfl) ?_
  refine ⟨rx_in6_0, ?_⟩
  refine nm_r (e' := (d18_0 : Int32)) (rx_g0 rfl) ?_
  refine ⟨rx_in6_0, ?_⟩
  refine nm_r (e' := (3 : Int32)) (by decide +kernel) ?_
  refine br_f (by decide +kernel) ?_
  refine br_f (by decide +kernel) ?_
  refine br_t (by decide +kernel) ?_
  refine br_f h1 ?_
  refine ⟨rx_in6_0, ?_⟩
  refine nm_r (e' := (rx_6 0 0 0 1 0 0)) (rx_u0 rfl (by decide +kernel)) ?_
  refine br_f h1 ?_
  refine ⟨h1, ?_⟩
  refine ⟨rx_in6_0, ?_⟩
  refine nm_r (e' := (rx_6 (d17_0 / d18_0) d10_1 d10_2 d10_3 d10_4 d10_5)) (rx_u0 rfl rfl) ?_
  refine ⟨rx_in6_0, ?_⟩
  refine nm_r (e' := (rx_6 2 0 0 2 0 0)) (rx_u0 rfl rfl) ?_
  refine ⟨7, ?_⟩
  refine br_f (by decide +kernel) ?_
  refine ⟨(by decide +kernel), ?_⟩
  refine nm_r (e' := (0 : Int32)) (by decide +kernel) ?_
  refine ⟨rx_in6_0, ?_⟩
  refine br_f (by decide +kernel) ?_
  refine ⟨rx_in6_0, ?_⟩
  refine br_f (by decide +kernel) ?_
  refine nm_r (e' := (1 : Int32)) (by decide +kernel) ?_
  refine br_f (by decide +kernel) ?_
  refine ⟨(by decide +kernel), ?_⟩
  refine nm_r (e' := (1 : Int32)) (by decide +kernel) ?_
  refine ⟨rx_in6_1, ?_⟩
  refine br_t (by decide +kernel) ?_
  refine ⟨rx_in6_1, ?_⟩
  refine nm_r (e' := (rx_6 (-1) (-1) (-1) (-1) 0 0)) (rx_u1 rfl rfl) ?_
  refine ⟨rx_in6_0, ?_⟩
  refine ⟨rx_in6_1, ?_⟩
  refine nm_r (e' := (rx_6 d17_0 (d17_0 / d18_0) d17_2 d17_3 d17_4 d17_5)) (rx_u1 rfl (rx_g0 rfl)) ?_
  refine ⟨rx_in6_1, ?_⟩
  refine br_f (by decide +kernel) ?_
  refine nm_r (e' := (2 : Int32)) (by decide +kernel) ?_
  refine br_f (by decide +kernel) ?_
  refine ⟨(by decide +kernel), ?_⟩
  refine nm_r (e' := (2 : Int32)) (by decide +kernel) ?_
  refine ⟨rx_in6_2, ?_⟩
  refine br_f (by decide +kernel) ?_
  refine ⟨rx_in6_2, ?_⟩
  refine br_f (by decide +kernel) ?_
  refine nm_r (e' := (3 : Int32)) (by decide +kernel) ?_
  refine br_f (by decide +kernel) ?_
  refine ⟨(by decide +kernel), ?_⟩
  refine nm_r (e' := (3 : Int32)) (by decide +kernel) ?_
  refine ⟨rx_in6_3, ?_⟩
  refine br_f (by decide +kernel) ?_
  refine ⟨rx_in6_3, ?_⟩
  refine br_f (by decide +kernel) ?_
  refine nm_r (e' := (4 : Int32)) (by decide +kernel) ?_
  refine br_t (by decide +kernel) ?_
  refine nm_r (e' := (1 : Int32)) (by decide +kernel) ?_
  refine br_f (by decide +kernel) ?_
  refine ⟨(by decide +kernel), ?_⟩
  refine nm_r (e' := (1 : Int32)) (by decide +kernel) ?_
  refine ⟨rx_in6_1, ?_⟩
  refine br_f (by decide +kernel) ?_
  refine nm_r (e' := (2 : Int32)) (by decide +kernel) ?_
  refine br_f (by decide +kernel) ?_
  refine ⟨(by decide +kernel), ?_⟩
  refine nm_r (e' := (2 : Int32)) (by decide +kernel) ?_
  refine ⟨rx_in6_2, ?_⟩
  refine br_f (by decide +kernel) ?_
  refine nm_r (e' := (3 : Int32)) (by decide +kernel) ?_
  refine br_f (by decide +kernel) ?_
  refine ⟨(by decide +kernel), ?_⟩
  refine nm_r (e' := (3 : Int32)) (by decide +kernel) ?_
  refine ⟨rx_in6_3, ?_⟩
  refine br_f (by decide +kernel) ?_
  refine nm_r (e' := (4 : Int32)) (by decide +kernel) ?_
  refine br_t (by decide +kernel) ?_
  exact hp
theorem rx_com_24 {post : St2 → Prop} {f0_size f0_at f0_state f0_count f0_guessBits f0_fetchAt f0_fetching d11_0 d11_1 d11_2 d11_3 d11_4 d11_5 d17_0 d17_1 d17_2 d17_3 d17_4 d17_5 d18_0 d18_1 d18_2 d18_3 d18_4 d18_5 : Int32} {a1 a2 a3 a4 a5 a7 a10 a13 a14 a19 : Nat → Int32} (h1 : 0 ≤ d18_1) (hp : post (f0_size, f0_at, f0_state, f0_count, f0_guessBits, f0_fetchAt, f0_fetching, 1, 3, a1, a2, a3, a4, a5, (rx_6 3 5 4 9 0 0), a7, (rx_6 2 2 0 2 0 0), (rx_6 0 0 0 0 0 0), a10, (rx_6 d11_0 (d18_1 &&& 7) d11_2 d11_3 d11_4 d11_5), (rx_6 0 0 0 1 0 0), a13, a14, (rx_6 (-1) (-1) (-1) (-1) 0 0), (rx_6 (-1) (-1) (-1) (-1) 0 0), (rx_6 d17_0 d17_1 d17_2 d17_3 d17_4 d17_5), (rx_6 d18_0 d18_1 d18_2 d18_3 d18_4 d18_5), a19)) :
    wpX_complete post (f0_size, f0_at, f0_state, f0_count, f0_guessBits, f0_fetchAt, f0_fetching, 1, 3, a1, a2, a3, a4, a5, (rx_6 3 5 4 9 0 0), a7, (rx_6 2 1 0 2 0 0), (rx_6 0 1 0 0 0 0), a10, (rx_6 d11_0 d11_1 d11_2 d11_3 d11_4 d11_5), (rx_6 0 0 0 1 0 0), a13, a14, (rx_6 (-1) (-1) (-1) (-1) 0 0), (rx_6 (-1) (-1) (-1) (-1) 0 0), (rx_6 d17_0 d17_1 d17_2 d17_3 d17_4 d17_5), (rx_6 d18_0 d18_1 d18_2 d18_3 d18_4 d18_5), a19) := by
  refine ⟨7, ?_⟩
  refine br_f (by decide +kernel) ?_
  refine ⟨(by decide +kernel), ?_⟩
  refine nm_r (e' := (1 : Int32)) (by decide +kernel) ?_
  refine ⟨rx_in6_1, ?_⟩
  refine br_t (by decide +kernel) ?_
  refine ⟨rx_in6_1, ?_⟩
  refine br_f (by decide +kernel) ?_
  refine ⟨rx_in6_1, ?_⟩
  refine ⟨rx_in6_1, ?_⟩
  refine nm_r (e' := (rx_6 0 0 0 0 0 0)) (rx_u1 rfl (by decide +kernel)) ?_
  refine ⟨rx_in6_1, ?_⟩
  refine br_t (by decide +kernel) ?_
  refine br_f (by decide +kernel) ?_
  refine ⟨rx_in6_1, ?_⟩
  refine nm_r (e' := (d17_1 : Int32)) (rx_g1 rfl) ?_
  refine ⟨rx_in6_1, ?_⟩
  refine nm_r (e' := (d18_1 : Int32)) (rx_g1 rfl) ?_
  refine ⟨rx_in6_1, ?_⟩
  refine nm_r (e' := (5 : Int32)) (by decide +kernel) ?_
  refine br_f (by decide +kernel) ?_
  refine br_f (by decide +kernel) ?_
  refine br_f (by decide +kernel) ?_
  refine br_f (by decide +kernel) ?_
  refine br_t (by decide +kernel) ?_
  refine br_t h1 ?_
  refine ⟨rx_in6_1, ?_⟩
  refine nm_r (e' := (rx_6 0 0 0 1 0 0)) (rx_u1 rfl (by decide +kernel)) ?_
  refine ⟨rx_in6_1, ?_⟩
  refine nm_r (e' := (rx_6 d11_0 (d18_1 &&& 7) d11_2 d11_3 d11_4 d11_5)) (rx_u1 rfl rfl) ?_
  refine ⟨rx_in6_1, ?_⟩
  refine nm_r (e' := (rx_6 2 2 0 2 0 0)) (rx_u1 rfl rfl) ?_
  refine ⟨7, ?_⟩
  refine br_f (by decide +kernel) ?_
  refine ⟨(by decide +kernel), ?_⟩
  refine nm_r (e' := (1 : Int32)) (by decide +kernel) ?_
  refine ⟨rx_in6_1, ?_⟩
  refine br_f (by decide +kernel) ?_
  refine ⟨rx_in6_1, ?_⟩
  refine br_f (by decide +kernel) ?_
  refine nm_r (e' := (1 : Int32)) (by decide +kernel) ?_
  refine br_f (by decide +kernel) ?_
  refine ⟨(by decide +kernel), ?_⟩
  refine nm_r (e' := (2 : Int32)) (by decide +kernel) ?_
  refine ⟨rx_in6_2, ?_⟩
  refine br_f (by decide +kernel) ?_
  refine ⟨rx_in6_2, ?_⟩
  refine br_f (by decide +kernel) ?_
  refine nm_r (e' := (2 : Int32)) (by decide +kernel) ?_
  refine br_f (by decide +kernel) ?_
  refine ⟨(by decide +kernel), ?_⟩
  refine nm_r (e' := (3 : Int32)) (by decide +kernel) ?_
  refine ⟨rx_in6_3, ?_⟩
  refine br_f (by decide +kernel) ?_
  refine ⟨rx_in6_3, ?_⟩
  refine br_f (by decide +kernel) ?_
  refine nm_r (e' := (3 : Int32)) (by decide +kernel) ?_
  refine br_t (by decide +kernel) ?_
  refine nm_r (e' := (1 : Int32)) (by decide +kernel) ?_
  refine br_f (by decide +kernel) ?_
  refine ⟨(by decide +kernel), ?_⟩
  refine nm_r (e' := (2 : Int32)) (by decide +kernel) ?_
  refine ⟨rx_in6_2, ?_⟩
  refine br_f (by decide +kernel) ?_
  refine nm_r (e' := (2 : Int32)) (by decide +kernel) ?_
  refine br_f (by decide +kernel) ?_
  refine ⟨(by decide +kernel), ?_⟩
  refine nm_r (e' := (3 : Int32)) (by decide +kernel) ?_
  refine ⟨rx_in6_3, ?_⟩
  refine br_f (by decide +kernel) ?_
  refine nm_r (e' := (3 : Int32)) (by decide +kernel) ?_
  refine br_t (by decide +kernel) ?_
  exact hp
theorem rx_com_25 {post : St2 → Prop} {f0_size f0_at f0_state f0_count f0_guessBits f0_fetchAt f0_fetching : Int32} {a1 a2 a3 a4 a5 a6 a7 a9 a10 a11 a12 a13 a14 a15 a16 a17 a18 a19 : Nat → Int32} (hp : post (f0_size, f0_at, f0_state, f0_count, f0_guessBits, f0_fetchAt, f0_fetching, 2, 2, a1, a2, a3, a4, a5, a6, a7, (rx_6 2 2 0 2 0 0), a9, a10, a11, a12, a13, a14, a15, a16, a17, a18, a19)) :
    wpX_complete post (f0_size, f0_at, f0_state, f0_count, f0_guessBits, f0_fetchAt, f0_fetching, 2, 2, a1, a2, a3, a4, a5, a6, a7, (rx_6 2 2 0 2 0 0), a9, a10, a11, a12, a13, a14, a15, a16, a17, a18, a19) := by
  refine ⟨7, ?_⟩
  refine br_f (by decide +kernel) ?_
  refine ⟨(by decide +kernel), ?_⟩
  refine nm_r (e' := (2 : Int32)) (by decide +kernel) ?_
  refine ⟨rx_in6_2, ?_⟩
  refine br_f (by decide +kernel) ?_
  refine nm_r (e' := (1 : Int32)) (by decide +kernel) ?_
  refine br_f (by decide +kernel) ?_
  refine ⟨(by decide +kernel), ?_⟩
  refine nm_r (e' := (3 : Int32)) (by decide +kernel) ?_
  refine ⟨rx_in6_3, ?_⟩
  refine br_f (by decide +kernel) ?_
  refine nm_r (e' := (2 : Int32)) (by decide +kernel) ?_
  refine br_t (by decide +kernel) ?_
  exact hp
theorem rx_com_26 {post : St2 → Prop} {f0_size f0_at f0_state f0_count f0_guessBits f0_fetchAt f0_fetching d10_0 d10_1 d10_2 d10_3 d10_4 d10_5 d17_0 d17_1 d17_2 d17_3 d17_4 d17_5 d18_0 d18_1 d18_2 d18_3 d18_4 d18_5 : Int32} {a1 a2 a3 a4 a5 a7 a11 a13 a14 a19 : Nat → Int32} (h1 : 0 ≤ d17_2) (hp : post (f0_size, f0_at, f0_state, f0_count, f0_guessBits, f0_fetchAt, f0_fetching, 2, 2, a1, a2, a3, a4, a5, (rx_6 3 5 4 9 0 0), a7, (rx_6 2 2 2 2 0 0), (rx_6 0 0 0 0 0 0), (rx_6 d10_0 d10_1 (a5 (d17_2 &&& 7).toNatClampNeg) d10_3 d10_4 d10_5), a11, (rx_6 0 0 0 1 0 0), a13, a14, (rx_6 (-1) (-1) (-1) (-1) 0 0), (rx_6 (-1) (-1) (-1) (-1) 0 0), (rx_6 d17_0 d17_1 d17_2 d17_3 d17_4 d17_5), (rx_6 d18_0 d18_1 d18_2 d18_3 d18_4 d18_5), a19)) :
    wpX_complete post (f0_size, f0_at, f0_state, f0_count, f0_guessBits, f0_fetchAt, f0_fetching, 2, 2, a1, a2, a3, a4, a5, (rx_6 3 5 4 9 0 0), a7, (rx_6 2 2 1 2 0 0), (rx_6 0 0 1 0 0 0), (rx_6 d10_0 d10_1 d10_2 d10_3 d10_4 d10_5), a11, (rx_6 0 0 0 1 0 0), a13, a14, (rx_6 (-1) (-1) (-1) (-1) 0 0), (rx_6 (-1) (-1) (-1) (-1) 0 0), (rx_6 d17_0 d17_1 d17_2 d17_3 d17_4 d17_5), (rx_6 d18_0 d18_1 d18_2 d18_3 d18_4 d18_5), a19) := by
  refine ⟨7, ?_⟩
  refine br_f (by decide +kernel) ?_
  refine ⟨(by decide +kernel), ?_⟩
  refine nm_r (e' := (2 : Int32)) (by decide +kernel) ?_
  refine ⟨rx_in6_2, ?_⟩
  refine br_t (by decide +kernel) ?_
  refine ⟨rx_in6_2, ?_⟩
  refine br_f (by decide +kernel) ?_
  refine ⟨rx_in6_2, ?_⟩
  refine ⟨rx_in6_2, ?_⟩
  refine nm_r (e' := (rx_6 0 0 0 0 0 0)) (rx_u2 rfl (by decide +kernel)) ?_
  refine ⟨rx_in6_2, ?_⟩
  refine br_t (by decide +kernel) ?_
  refine br_f (by decide +kernel) ?_
  refine ⟨rx_in6_2, ?_⟩
  refine nm_r (e' := (d17_2 : Int32)) (rx_g2 rfl) ?_
  refine ⟨rx_in6_2, ?_⟩
  refine nm_r (e' := (d18_2 : Int32)) (rx_g2 rfl) ?_
  refine ⟨rx_in6_2, ?_⟩
  refine nm_r (e' := (4 : Int32)) (by decide +kernel) ?_
  refine br_f (by decide +kernel) ?_
  refine br_f (by decide +kernel) ?_
  refine br_f (by decide +kernel) ?_
  refine br_t (by decide +kernel) ?_
  refine br_t h1 ?_
  refine ⟨rx_in6_2, ?_⟩
  refine nm_r (e' := (rx_6 0 0 0 1 0 0)) (rx_u2 rfl (by decide +kernel)) ?_
  refine ⟨(rx_and7 d17_2), ?_⟩
  refine ⟨rx_in6_2, ?_⟩
  refine nm_r (e' := (rx_6 d10_0 d10_1 (a5 (d17_2 &&& 7).toNatClampNeg) d10_3 d10_4 d10_5)) (rx_u2 rfl rfl) ?_
  refine ⟨rx_in6_2, ?_⟩
  refine nm_r (e' := (rx_6 2 2 2 2 0 0)) (rx_u2 rfl rfl) ?_
  refine ⟨7, ?_⟩
  refine br_f (by decide +kernel) ?_
  refine ⟨(by decide +kernel), ?_⟩
  refine nm_r (e' := (2 : Int32)) (by decide +kernel) ?_
  refine ⟨rx_in6_2, ?_⟩
  refine br_f (by decide +kernel) ?_
  refine ⟨rx_in6_2, ?_⟩
  refine br_f (by decide +kernel) ?_
  refine nm_r (e' := (1 : Int32)) (by decide +kernel) ?_
  refine br_f (by decide +kernel) ?_
  refine ⟨(by decide +kernel), ?_⟩
  refine nm_r (e' := (3 : Int32)) (by decide +kernel) ?_
  refine ⟨rx_in6_3, ?_⟩
  refine br_f (by decide +kernel) ?_
  refine ⟨rx_in6_3, ?_⟩
  refine br_f (by decide +kernel) ?_
  refine nm_r (e' := (2 : Int32)) (by decide +kernel) ?_
  refine br_t (by decide +kernel) ?_
  refine nm_r (e' := (1 : Int32)) (by decide +kernel) ?_
  refine br_f (by decide +kernel) ?_
  refine ⟨(by decide +kernel), ?_⟩
  refine nm_r (e' := (3 : Int32)) (by decide +kernel) ?_
  refine ⟨rx_in6_3, ?_⟩
  refine br_f (by decide +kernel) ?_
  refine nm_r (e' := (2 : Int32)) (by decide +kernel) ?_
  refine br_t (by decide +kernel) ?_
  exact hp
theorem rx_com_27 {post : St2 → Prop} {f0_size f0_at f0_state f0_count f0_guessBits f0_fetchAt f0_fetching d11_0 d11_1 d11_2 d11_3 d11_4 d11_5 d17_0 d17_1 d17_2 d17_3 d17_4 d17_5 d18_0 d18_1 d18_2 d18_3 d18_4 d18_5 : Int32} {a1 a2 a3 a4 a5 a7 a10 a13 a14 a19 : Nat → Int32} (h1 : ¬ 0 ≤ d18_1) (hp : post (f0_size, f0_at, f0_state, f0_count, f0_guessBits, f0_fetchAt, f0_fetching, 1, 3, a1, a2, a3, a4, a5, (rx_6 3 5 4 9 0 0), a7, (rx_6 2 2 0 2 0 0), (rx_6 0 0 0 0 0 0), a10, (rx_6 d11_0 (d18_1 &&& 7) d11_2 d11_3 d11_4 d11_5), (rx_6 0 1 0 1 0 0), a13, a14, (rx_6 (-1) (-1) (-1) (-1) 0 0), (rx_6 (-1) (-1) (-1) (-1) 0 0), (rx_6 d17_0 d17_1 d17_2 d17_3 d17_4 d17_5), (rx_6 d18_0 d18_1 d18_2 d18_3 d18_4 d18_5), a19)) :
    wpX_complete post (f0_size, f0_at, f0_state, f0_count, f0_guessBits, f0_fetchAt, f0_fetching, 1, 3, a1, a2, a3, a4, a5, (rx_6 3 5 4 9 0 0), a7, (rx_6 2 1 0 2 0 0), (rx_6 0 1 0 0 0 0), a10, (rx_6 d11_0 d11_1 d11_2 d11_3 d11_4 d11_5), (rx_6 0 0 0 1 0 0), a13, a14, (rx_6 (-1) (-1) (-1) (-1) 0 0), (rx_6 (-1) (-1) (-1) (-1) 0 0), (rx_6 d17_0 d17_1 d17_2 d17_3 d17_4 d17_5), (rx_6 d18_0 d18_1 d18_2 d18_3 d18_4 d18_5), a19) := by
  refine ⟨7, ?_⟩
  refine br_f (by decide +kernel) ?_
  refine ⟨(by decide +kernel), ?_⟩
  refine nm_r (e' := (1 : Int32)) (by decide +kernel) ?_
  refine ⟨rx_in6_1, ?_⟩
  refine br_t (by decide +kernel) ?_
  refine ⟨rx_in6_1, ?_⟩
  refine br_f (by decide +kernel) ?_
  refine ⟨rx_in6_1, ?_⟩
  refine ⟨rx_in6_1, ?_⟩
  refine nm_r (e' := (rx_6 0 0 0 0 0 0)) (rx_u1 rfl (by decide +kernel)) ?_
  refine ⟨rx_in6_1, ?_⟩
  refine br_t (by decide +kernel) ?_
  refine br_f (by decide +kernel) ?_
  refine ⟨rx_in6_1, ?_⟩
  refine nm_r (e' := (d17_1 : Int32)) (rx_g1 rfl) ?_
  refine ⟨rx_in6_1, ?_⟩
  refine nm_r (e' := (d18_1 : Int32)) (rx_g1 rfl) ?_
  refine ⟨rx_in6_1, ?_⟩
  refine nm_r (e' := (5 : Int32)) (by decide +kernel) ?_
  refine br_f (by decide +kernel) ?_
  refine br_f (by decide +kernel) ?_
  refine br_f (by decide +kernel) ?_
  refine br_f (by decide +kernel) ?_
  refine br_t (by decide +kernel) ?_
  refine br_f h1 ?_
  refine ⟨rx_in6_1, ?_⟩
  refine nm_r (e' := (rx_6 0 1 0 1 0 0)) (rx_u1 rfl (by decide +kernel)) ?_
  refine ⟨rx_in6_1, ?_⟩
  refine nm_r (e' := (rx_6 d11_0 (d18_1 &&& 7) d11_2 d11_3 d11_4 d11_5)) (rx_u1 rfl rfl) ?_
  refine ⟨rx_in6_1, ?_⟩
  refine nm_r (e' := (rx_6 2 2 0 2 0 0)) (rx_u1 rfl rfl) ?_
  refine ⟨7, ?_⟩
  refine br_f (by decide +kernel) ?_
  refine ⟨(by decide +kernel), ?_⟩
  refine nm_r (e' := (1 : Int32)) (by decide +kernel) ?_
  refine ⟨rx_in6_1, ?_⟩
  refine br_f (by decide +kernel) ?_
  refine ⟨rx_in6_1, ?_⟩
  refine br_f (by decide +kernel) ?_
  refine nm_r (e' := (1 : Int32)) (by decide +kernel) ?_
  refine br_f (by decide +kernel) ?_
  refine ⟨(by decide +kernel), ?_⟩
  refine nm_r (e' := (2 : Int32)) (by decide +kernel) ?_
  refine ⟨rx_in6_2, ?_⟩
  refine br_f (by decide +kernel) ?_
  refine ⟨rx_in6_2, ?_⟩
  refine br_f (by decide +kernel) ?_
  refine nm_r (e' := (2 : Int32)) (by decide +kernel) ?_
  refine br_f (by decide +kernel) ?_
  refine ⟨(by decide +kernel), ?_⟩
  refine nm_r (e' := (3 : Int32)) (by decide +kernel) ?_
  refine ⟨rx_in6_3, ?_⟩
  refine br_f (by decide +kernel) ?_
  refine ⟨rx_in6_3, ?_⟩
  refine br_f (by decide +kernel) ?_
  refine nm_r (e' := (3 : Int32)) (by decide +kernel) ?_
  refine br_t (by decide +kernel) ?_
  refine nm_r (e' := (1 : Int32)) (by decide +kernel) ?_
  refine br_f (by decide +kernel) ?_
  refine ⟨(by decide +kernel), ?_⟩
  refine nm_r (e' := (2 : Int32)) (by decide +kernel) ?_
  refine ⟨rx_in6_2, ?_⟩
  refine br_f (by decide +kernel) ?_
  refine nm_r (e' := (2 : Int32)) (by decide +kernel) ?_
  refine br_f (by decide +kernel) ?_
  refine ⟨(by decide +kernel), ?_⟩
  refine nm_r (e' := (3 : Int32)) (by decide +kernel) ?_
  refine ⟨rx_in6_3, ?_⟩
  refine br_f (by decide +kernel) ?_
  refine nm_r (e' := (3 : Int32)) (by decide +kernel) ?_
  refine br_t (by decide +kernel) ?_
  exact hp
end
section
theorem rx_beg_1 {post : St2 → Prop} {f0_size f0_at f0_state f0_count f0_guessBits f0_fetchAt f0_fetching f0_first : Int32} {a1 a2 a3 a4 a5 a6 a7 a8 a9 a10 a11 a12 a13 a14 a15 a16 a17 a18 a19 : Nat → Int32} (hp : post (f0_size, f0_at, f0_state, f0_count, f0_guessBits, f0_fetchAt, f0_fetching, f0_first, 0, a1, a2, a3, a4, a5, a6, a7, a8, a9, a10, a11, a12, a13, a14, a15, a16, a17, a18, a19)) :
    wpX_begin post (f0_size, f0_at, f0_state, f0_count, f0_guessBits, f0_fetchAt, f0_fetching, f0_first, 0, a1, a2, a3, a4, a5, a6, a7, a8, a9, a10, a11, a12, a13, a14, a15, a16, a17, a18, a19) := by
  refine ⟨7, ?_⟩
  refine br_t (by decide +kernel) ?_
  refine ⟨7, ?_⟩
  refine br_t (by decide +kernel) ?_
  exact hp
theorem rx_beg_2 {post : St2 → Prop} {f0_size f0_at f0_state f0_count f0_guessBits f0_fetchAt f0_fetching : Int32} {a1 a2 a3 a4 a5 a7 a10 a11 a12 a13 a14 a17 a18 a19 : Nat → Int32} (hp : post (f0_size, f0_at, f0_state, f0_count, f0_guessBits, f0_fetchAt, f0_fetching, 0, 1, a1, a2, a3, a4, a5, (rx_6 1 0 0 0 0 0), a7, (rx_6 1 0 0 0 0 0), (rx_6 1 0 0 0 0 0), a10, a11, a12, a13, a14, (rx_6 (-1) 0 0 0 0 0), (rx_6 (-1) 0 0 0 0 0), a17, a18, a19)) :
    wpX_begin post (f0_size, f0_at, f0_state, f0_count, f0_guessBits, f0_fetchAt, f0_fetching, 0, 1, a1, a2, a3, a4, a5, (rx_6 1 0 0 0 0 0), a7, (rx_6 0 0 0 0 0 0), (rx_6 0 0 0 0 0 0), a10, a11, a12, a13, a14, (rx_6 (-1) 0 0 0 0 0), (rx_6 (-1) 0 0 0 0 0), a17, a18, a19) := by
  refine ⟨7, ?_⟩
  refine br_f (by decide +kernel) ?_
  refine ⟨(by decide +kernel), ?_⟩
  refine nm_r (e' := (0 : Int32)) (by decide +kernel) ?_
  refine ⟨rx_in6_0, ?_⟩
  refine br_f (by decide +kernel) ?_
  refine nm_r (e' := (0 : Int32)) (by decide +kernel) ?_
  refine nm_r (e' := (1 : Int32)) (by decide +kernel) ?_
  refine br_t (by decide +kernel) ?_
  refine ⟨7, ?_⟩
  refine br_f (by decide +kernel) ?_
  refine ⟨(by decide +kernel), ?_⟩
  refine nm_r (e' := (0 : Int32)) (by decide +kernel) ?_
  refine ⟨rx_in6_0, ?_⟩
  refine br_f (by decide +kernel) ?_
  refine ⟨rx_in6_0, ?_⟩
  refine br_f (by decide +kernel) ?_
  refine ⟨rx_in6_0, ?_⟩
  refine br_t (by decide +kernel) ?_
  refine ⟨rx_in6_0, ?_⟩
  refine br_f (by decide +kernel) ?_
  refine ⟨rx_in6_0, ?_⟩
  refine br_f (by decide +kernel) ?_
  refine br_f (by decide +kernel) ?_
  refine br_t (by decide +kernel) ?_
  refine ⟨rx_in6_0, ?_⟩
  refine br_f (by decide +kernel) ?_
  refine ⟨rx_in6_0, ?_⟩
  refine nm_r (e' := (rx_6 1 0 0 0 0 0)) (rx_u0 rfl rfl) ?_
  refine ⟨rx_in6_0, ?_⟩
  refine br_f (by decide +kernel) ?_
  refine br_f (by decide +kernel) ?_
  refine br_f (by decide +kernel) ?_
  refine ⟨rx_in6_0, ?_⟩
  refine nm_r (e' := (rx_6 1 0 0 0 0 0)) (rx_u0 rfl (by decide +kernel)) ?_
  refine nm_r (e' := (0 : Int32)) (by decide +kernel) ?_
  refine ⟨rx_in6_0, ?_⟩
  refine br_f (by decide +kernel) ?_
  refine nm_r (e' := (0 : Int32)) (by decide +kernel) ?_
  refine nm_r (e' := (1 : Int32)) (by decide +kernel) ?_
  refine br_t (by decide +kernel) ?_
  exact hp
theorem rx_beg_3 {post : St2 → Prop} {f0_size f0_at f0_state f0_count f0_guessBits f0_fetchAt f0_fetching : Int32} {a1 a2 a3 a4 a5 a7 a10 a11 a12 a13 a14 a17 a18 a19 : Nat → Int32} (hp : post (f0_size, f0_at, f0_state, f0_count, f0_guessBits, f0_fetchAt, f0_fetching, 0, 2, a1, a2, a3, a4, a5, (rx_6 1 5 0 0 0 0), a7, (rx_6 2 1 0 0 0 0), (rx_6 0 1 0 0 0 0), a10, a11, a12, a13, a14, (rx_6 (-1) (-1) 0 0 0 0), (rx_6 (-1) (-1) 0 0 0 0), a17, a18, a19)) :
    wpX_begin post (f0_size, f0_at, f0_state, f0_count, f0_guessBits, f0_fetchAt, f0_fetching, 0, 2, a1, a2, a3, a4, a5, (rx_6 1 5 0 0 0 0), a7, (rx_6 2 0 0 0 0 0), (rx_6 0 0 0 0 0 0), a10, a11, a12, a13, a14, (rx_6 (-1) (-1) 0 0 0 0), (rx_6 (-1) (-1) 0 0 0 0), a17, a18, a19) := by
  refine ⟨7, ?_⟩
  refine br_f (by decide +kernel) ?_
  refine ⟨(by decide +kernel), ?_⟩
  refine nm_r (e' := (0 : Int32)) (by decide +kernel) ?_
  refine ⟨rx_in6_0, ?_⟩
  refine br_f (by decide +kernel) ?_
  refine nm_r (e' := (0 : Int32)) (by decide +kernel) ?_
  refine nm_r (e' := (1 : Int32)) (by decide +kernel) ?_
  refine br_f (by decide +kernel) ?_
  refine ⟨(by decide +kernel), ?_⟩
  refine nm_r (e' := (1 : Int32)) (by decide +kernel) ?_
  refine ⟨rx_in6_1, ?_⟩
  refine br_f (by decide +kernel) ?_
  refine nm_r (e' := (0 : Int32)) (by decide +kernel) ?_
  refine nm_r (e' := (2 : Int32)) (by decide +kernel) ?_
  refine br_t (by decide +kernel) ?_
  refine ⟨7, ?_⟩
  refine br_f (by decide +kernel) ?_
  refine ⟨(by decide +kernel), ?_⟩
  refine nm_r (e' := (0 : Int32)) (by decide +kernel) ?_
  refine ⟨rx_in6_0, ?_⟩
  refine br_f (by decide +kernel) ?_
  refine ⟨rx_in6_0, ?_⟩
  refine br_f (by decide +kernel) ?_
  refine ⟨rx_in6_0, ?_⟩
  refine br_f (by decide +kernel) ?_
  refine br_t (by decide +kernel) ?_
  refine ⟨rx_in6_0, ?_⟩
  refine br_f (by decide +kernel) ?_
  refine nm_r (e' := (0 : Int32)) (by decide +kernel) ?_
  refine nm_r (e' := (1 : Int32)) (by decide +kernel) ?_
  refine br_f (by decide +kernel) ?_
  refine ⟨(by decide +kernel), ?_⟩
  refine nm_r (e' := (1 : Int32)) (by decide +kernel) ?_
  refine ⟨rx_in6_1, ?_⟩
  refine br_f (by decide +kernel) ?_
  refine ⟨rx_in6_1, ?_⟩
  refine br_f (by decide +kernel) ?_
  refine ⟨rx_in6_1, ?_⟩
  refine br_t (by decide +kernel) ?_
  refine ⟨rx_in6_1, ?_⟩
  refine br_f (by decide +kernel) ?_
  refine ⟨rx_in6_1, ?_⟩
  refine br_f (by decide +kernel) ?_
  refine br_f (by decide +kernel) ?_
  refine br_t (by decide +kernel) ?_
  refine ⟨rx_in6_1, ?_⟩
  refine br_f (by decide +kernel) ?_
  refine ⟨rx_in6_1, ?_⟩
  refine nm_r (e' := (rx_6 2 1 0 0 0 0)) (rx_u1 rfl rfl) ?_
  refine ⟨rx_in6_1, ?_⟩
  refine br_f (by decide +kernel) ?_
  refine br_f (by decide +kernel) ?_
  refine br_f (by decide +kernel) ?_
  refine ⟨rx_in6_1, ?_⟩
  refine nm_r (e' := (rx_6 0 1 0 0 0 0)) (rx_u1 rfl (by decide +kernel)) ?_
  refine nm_r (e' := (0 : Int32)) (by decide +kernel) ?_
  refine ⟨rx_in6_1, ?_⟩
  refine br_t (by decide +kernel) ?_
  refine nm_r (e' := (1 : Int32)) (by decide +kernel) ?_
  refine nm_r (e' := (2 : Int32)) (by decide +kernel) ?_
  refine br_t (by decide +kernel) ?_
  exact hp
theorem rx_beg_4 {post : St2 → Prop} {f0_size f0_at f0_state f0_count f0_guessBits f0_fetchAt f0_fetching : Int32} {a1 a2 a3 a4 a5 a7 a9 a10 a11 a12 a13 a14 a17 a18 a19 : Nat → Int32} (hp : post (f0_size, f0_at, f0_state, f0_count, f0_guessBits, f0_fetchAt, f0_fetching, 1, 2, a1, a2, a3, a4, a5, (rx_6 1 5 4 0 0 0), a7, (rx_6 2 2 0 0 0 0), a9, a10, a11, a12, a13, a14, (rx_6 (-1) (-1) (-1) 0 0 0), (rx_6 (-1) (-1) (-1) 0 0 0), a17, a18, a19)) :
    wpX_begin post (f0_size, f0_at, f0_state, f0_count, f0_guessBits, f0_fetchAt, f0_fetching, 1, 2, a1, a2, a3, a4, a5, (rx_6 1 5 4 0 0 0), a7, (rx_6 2 2 0 0 0 0), a9, a10, a11, a12, a13, a14, (rx_6 (-1) (-1) (-1) 0 0 0), (rx_6 (-1) (-1) (-1) 0 0 0), a17, a18, a19) := by
  refine ⟨7, ?_⟩
  refine br_f (by decide +kernel) ?_
  refine ⟨(by decide +kernel), ?_⟩
  refine nm_r (e' := (1 : Int32)) (by decide +kernel) ?_
  refine ⟨rx_in6_1, ?_⟩
  refine br_f (by decide +kernel) ?_
  refine nm_r (e' := (0 : Int32)) (by decide +kernel) ?_
  refine nm_r (e' := (1 : Int32)) (by decide +kernel) ?_
  refine br_f (by decide +kernel) ?_
  refine ⟨(by decide +kernel), ?_⟩
  refine nm_r (e' := (2 : Int32)) (by decide +kernel) ?_
  refine ⟨rx_in6_2, ?_⟩
  refine br_f (by decide +kernel) ?_
  refine nm_r (e' := (0 : Int32)) (by decide +kernel) ?_
  refine nm_r (e' := (2 : Int32)) (by decide +kernel) ?_
  refine br_t (by decide +kernel) ?_
  refine ⟨7, ?_⟩
  refine br_f (by decide +kernel) ?_
  refine ⟨(by decide +kernel), ?_⟩
  refine nm_r (e' := (1 : Int32)) (by decide +kernel) ?_
  refine ⟨rx_in6_1, ?_⟩
  refine br_f (by decide +kernel) ?_
  refine ⟨rx_in6_1, ?_⟩
  refine br_f (by decide +kernel) ?_
  refine ⟨rx_in6_1, ?_⟩
  refine br_f (by decide +kernel) ?_
  refine br_t (by decide +kernel) ?_
  refine ⟨rx_in6_1, ?_⟩
  refine br_t (by decide +kernel) ?_
  refine nm_r (e' := (1 : Int32)) (by decide +kernel) ?_
  refine nm_r (e' := (1 : Int32)) (by decide +kernel) ?_
  refine br_f (by decide +kernel) ?_
  refine ⟨(by decide +kernel), ?_⟩
  refine nm_r (e' := (2 : Int32)) (by decide +kernel) ?_
  refine ⟨rx_in6_2, ?_⟩
  refine br_f (by decide +kernel) ?_
  refine ⟨rx_in6_2, ?_⟩
  refine br_f (by decide +kernel) ?_
  refine ⟨rx_in6_2, ?_⟩
  refine br_t (by decide +kernel) ?_
  refine ⟨rx_in6_2, ?_⟩
  refine br_f (by decide +kernel) ?_
  refine ⟨rx_in6_2, ?_⟩
  refine br_f (by decide +kernel) ?_
  refine br_f (by decide +kernel) ?_
  refine br_t (by decide +kernel) ?_
  refine ⟨rx_in6_2, ?_⟩
  refine br_t (by decide +kernel) ?_
  refine br_f (by decide +kernel) ?_
  refine ⟨rx_in6_2, ?_⟩
  refine br_f (by decide +kernel) ?_
  refine nm_r (e' := (1 : Int32)) (by decide +kernel) ?_
  refine nm_r (e' := (2 : Int32)) (by decide +kernel) ?_
  refine br_t (by decide +kernel) ?_
  exact hp
theorem rx_beg_5 {post : St2 → Prop} {f0_size f0_at f0_state f0_count f0_guessBits f0_fetchAt f0_fetching : Int32} {a1 a2 a3 a4 a5 a7 a10 a11 a12 a13 a14 a17 a18 a19 : Nat → Int32} (hp : post (f0_size, f0_at, f0_state, f0_count, f0_guessBits, f0_fetchAt, f0_fetching, 2, 2, a1, a2, a3, a4, a5, (rx_6 1 5 4 9 0 0), a7, (rx_6 2 2 1 1 0 0), (rx_6 0 0 2 1 0 0), a10, a11, a12, a13, a14, (rx_6 (-1) (-1) (-1) (-1) 0 0), (rx_6 (-1) (-1) (-1) (-1) 0 0), a17, a18, a19)) :
    wpX_begin post (f0_size, f0_at, f0_state, f0_count, f0_guessBits, f0_fetchAt, f0_fetching, 2, 2, a1, a2, a3, a4, a5, (rx_6 1 5 4 9 0 0), a7, (rx_6 2 2 0 0 0 0), (rx_6 0 0 0 0 0 0), a10, a11, a12, a13, a14, (rx_6 (-1) (-1) (-1) (-1) 0 0), (rx_6 (-1) (-1) (-1) (-1) 0 0), a17, a18, a19) := by
  refine ⟨7, ?_⟩
  refine br_f (by decide +kernel) ?_
  refine ⟨(by decide +kernel), ?_⟩
  refine nm_r (e' := (2 : Int32)) (by decide +kernel) ?_
  refine ⟨rx_in6_2, ?_⟩
  refine br_f (by decide +kernel) ?_
  refine nm_r (e' := (0 : Int32)) (by decide +kernel) ?_
  refine nm_r (e' := (1 : Int32)) (by decide +kernel) ?_
  refine br_f (by decide +kernel) ?_
  refine ⟨(by decide +kernel), ?_⟩
  refine nm_r (e' := (3 : Int32)) (by decide +kernel) ?_
  refine ⟨rx_in6_3, ?_⟩
  refine br_f (by decide +kernel) ?_
  refine nm_r (e' := (0 : Int32)) (by decide +kernel) ?_
  refine nm_r (e' := (2 : Int32)) (by decide +kernel) ?_
  refine br_t (by decide +kernel) ?_
  refine ⟨7, ?_⟩
  refine br_f (by decide +kernel) ?_
  refine ⟨(by decide +kernel), ?_⟩
  refine nm_r (e' := (2 : Int32)) (by decide +kernel) ?_
  refine ⟨rx_in6_2, ?_⟩
  refine br_f (by decide +kernel) ?_
  refine ⟨rx_in6_2, ?_⟩
  refine br_f (by decide +kernel) ?_
  refine ⟨rx_in6_2, ?_⟩
  refine br_t (by decide +kernel) ?_
  refine ⟨rx_in6_2, ?_⟩
  refine br_f (by decide +kernel) ?_
  refine ⟨rx_in6_2, ?_⟩
  refine br_f (by decide +kernel) ?_
  refine br_f (by decide +kernel) ?_
  refine br_t (by decide +kernel) ?_
  refine ⟨rx_in6_2, ?_⟩
  refine br_t (by decide +kernel) ?_
  refine br_t (by decide +kernel) ?_
  refine ⟨rx_in6_2, ?_⟩
  refine nm_r (e' := (rx_6 2 2 1 0 0 0)) (rx_u2 rfl rfl) ?_
  refine ⟨rx_in6_2, ?_⟩
  refine br_f (by decide +kernel) ?_
  refine br_f (by decide +kernel) ?_
  refine br_t (by decide +kernel) ?_
  refine ⟨rx_in6_2, ?_⟩
  refine nm_r (e' := (rx_6 0 0 2 0 0 0)) (rx_u2 rfl (by decide +kernel)) ?_
  refine nm_r (e' := (0 : Int32)) (by decide +kernel) ?_
  refine ⟨rx_in6_2, ?_⟩
  refine br_f (by decide +kernel) ?_
  refine nm_r (e' := (0 : Int32)) (by decide +kernel) ?_
  refine nm_r (e' := (1 : Int32)) (by decide +kernel) ?_
  refine br_f (by decide +kernel) ?_
  refine ⟨(by decide +kernel), ?_⟩
  refine nm_r (e' := (3 : Int32)) (by decide +kernel) ?_
  refine ⟨rx_in6_3, ?_⟩
  refine br_f (by decide +kernel) ?_
  refine ⟨rx_in6_3, ?_⟩
  refine br_f (by decide +kernel) ?_
  refine ⟨rx_in6_3, ?_⟩
  refine br_t (by decide +kernel) ?_
  refine ⟨rx_in6_3, ?_⟩
  refine br_f (by decide +kernel) ?_
  refine ⟨rx_in6_3, ?_⟩
  refine br_f (by decide +kernel) ?_
  refine br_f (by decide +kernel) ?_
  refine br_t (by decide +kernel) ?_
  refine ⟨rx_in6_3, ?_⟩
  refine br_f (by decide +kernel) ?_
  refine ⟨rx_in6_3, ?_⟩
  refine nm_r (e' := (rx_6 2 2 1 1 0 0)) (rx_u3 rfl rfl) ?_
  refine ⟨rx_in6_3, ?_⟩
  refine br_f (by decide +kernel) ?_
  refine br_f (by decide +kernel) ?_
  refine br_f (by decide +kernel) ?_
  refine ⟨rx_in6_3, ?_⟩
  refine nm_r (e' := (rx_6 0 0 2 1 0 0)) (rx_u3 rfl (by decide +kernel)) ?_
  refine nm_r (e' := (0 : Int32)) (by decide +kernel) ?_
  refine ⟨rx_in6_3, ?_⟩
  refine br_f (by decide +kernel) ?_
  refine nm_r (e' := (0 : Int32)) (by decide +kernel) ?_
  refine nm_r (e' := (2 : Int32)) (by decide +kernel) ?_
  refine br_t (by decide +kernel) ?_
  exact hp
theorem rx_beg_6 {post : St2 → Prop} {f0_size f0_at f0_state f0_count f0_guessBits f0_fetchAt f0_fetching : Int32} {a1 a2 a3 a4 a5 a7 a9 a10 a11 a12 a13 a14 a15 a16 a17 a18 a19 : Nat → Int32} (hp : post (f0_size, f0_at, f0_state, f0_count, f0_guessBits, f0_fetchAt, f0_fetching, 2, 2, a1, a2, a3, a4, a5, (rx_6 1 5 4 9 0 0), a7, (rx_6 2 2 1 2 0 0), a9, a10, a11, a12, a13, a14, a15, a16, a17, a18, a19)) :
    wpX_begin post (f0_size, f0_at, f0_state, f0_count, f0_guessBits, f0_fetchAt, f0_fetching, 2, 2, a1, a2, a3, a4, a5, (rx_6 1 5 4 9 0 0), a7, (rx_6 2 2 1 2 0 0), a9, a10, a11, a12, a13, a14, a15, a16, a17, a18, a19) := by
  refine ⟨7, ?_⟩
  refine br_f (by decide +kernel) ?_
  refine ⟨(by decide +kernel), ?_⟩
  refine nm_r (e' := (2 : Int32)) (by decide +kernel) ?_
  refine ⟨rx_in6_2, ?_⟩
  refine br_t (by decide +kernel) ?_
  refine ⟨rx_in6_2, ?_⟩
  refine br_f (by decide +kernel) ?_
  refine ⟨rx_in6_2, ?_⟩
  refine br_f (by decide +kernel) ?_
  refine nm_r (e' := (0 : Int32)) (by decide +kernel) ?_
  refine nm_r (e' := (1 : Int32)) (by decide +kernel) ?_
  refine br_f (by decide +kernel) ?_
  refine ⟨(by decide +kernel), ?_⟩
  refine nm_r (e' := (3 : Int32)) (by decide +kernel) ?_
  refine ⟨rx_in6_3, ?_⟩
  refine br_f (by decide +kernel) ?_
  refine nm_r (e' := (0 : Int32)) (by decide +kernel) ?_
  refine nm_r (e' := (2 : Int32)) (by decide +kernel) ?_
  refine br_t (by decide +kernel) ?_
  refine ⟨7, ?_⟩
  refine br_f (by decide +kernel) ?_
  refine ⟨(by decide +kernel), ?_⟩
  refine nm_r (e' := (2 : Int32)) (by decide +kernel) ?_
  refine ⟨rx_in6_2, ?_⟩
  refine br_f (by decide +kernel) ?_
  refine ⟨rx_in6_2, ?_⟩
  refine br_f (by decide +kernel) ?_
  refine ⟨rx_in6_2, ?_⟩
  refine br_f (by decide +kernel) ?_
  refine br_t (by decide +kernel) ?_
  refine ⟨rx_in6_2, ?_⟩
  refine br_f (by decide +kernel) ?_
  refine nm_r (e' := (0 : Int32)) (by decide +kernel) ?_
  refine nm_r (e' := (1 : Int32)) (by decide +kernel) ?_
  refine br_f (by decide +kernel) ?_
  refine ⟨(by decide +kernel), ?_⟩
  refine nm_r (e' := (3 : Int32)) (by decide +kernel) ?_
  refine ⟨rx_in6_3, ?_⟩
  refine br_f (by decide +kernel) ?_
  refine ⟨rx_in6_3, ?_⟩
  refine br_f (by decide +kernel) ?_
  refine ⟨rx_in6_3, ?_⟩
  refine br_f (by decide +kernel) ?_
  refine br_t (by decide +kernel) ?_
  refine ⟨rx_in6_3, ?_⟩
  refine br_f (by decide +kernel) ?_
  refine nm_r (e' := (0 : Int32)) (by decide +kernel) ?_
  refine nm_r (e' := (2 : Int32)) (by decide +kernel) ?_
  refine br_t (by decide +kernel) ?_
  exact hp
theorem rx_beg_7 {post : St2 → Prop} {f0_size f0_at f0_state f0_count f0_guessBits f0_fetchAt f0_fetching : Int32} {a1 a2 a3 a4 a5 a7 a9 a10 a11 a12 a13 a14 a15 a16 a17 a18 a19 : Nat → Int32} (hp : post (f0_size, f0_at, f0_state, f0_count, f0_guessBits, f0_fetchAt, f0_fetching, 2, 2, a1, a2, a3, a4, a5, (rx_6 1 5 4 9 0 0), a7, (rx_6 2 2 2 2 0 0), a9, a10, a11, a12, a13, a14, a15, a16, a17, a18, a19)) :
    wpX_begin post (f0_size, f0_at, f0_state, f0_count, f0_guessBits, f0_fetchAt, f0_fetching, 2, 2, a1, a2, a3, a4, a5, (rx_6 1 5 4 9 0 0), a7, (rx_6 2 2 2 2 0 0), a9, a10, a11, a12, a13, a14, a15, a16, a17, a18, a19) := by
  refine ⟨7, ?_⟩
  refine br_f (by decide +kernel) ?_
  refine ⟨(by decide +kernel), ?_⟩
  refine nm_r (e' := (2 : Int32)) (by decide +kernel) ?_
  refine ⟨rx_in6_2, ?_⟩
  refine br_f (by decide +kernel) ?_
  refine nm_r (e' := (0 : Int32)) (by decide +kernel) ?_
  refine nm_r (e' := (1 : Int32)) (by decide +kernel) ?_
  refine br_f (by decide +kernel) ?_
  refine ⟨(by decide +kernel), ?_⟩
  refine nm_r (e' := (3 : Int32)) (by decide +kernel) ?_
  refine ⟨rx_in6_3, ?_⟩
  refine br_f (by decide +kernel) ?_
  refine nm_r (e' := (0 : Int32)) (by decide +kernel) ?_
  refine nm_r (e' := (2 : Int32)) (by decide +kernel) ?_
  refine br_t (by decide +kernel) ?_
  refine ⟨7, ?_⟩
  refine br_f (by decide +kernel) ?_
  refine ⟨(by decide +kernel), ?_⟩
  refine nm_r (e' := (2 : Int32)) (by decide +kernel) ?_
  refine ⟨rx_in6_2, ?_⟩
  refine br_f (by decide +kernel) ?_
  refine ⟨rx_in6_2, ?_⟩
  refine br_f (by decide +kernel) ?_
  refine ⟨rx_in6_2, ?_⟩
  refine br_f (by decide +kernel) ?_
  refine br_t (by decide +kernel) ?_
  refine ⟨rx_in6_2, ?_⟩
  refine br_f (by decide +kernel) ?_
  refine nm_r (e' := (0 : Int32)) (by decide +kernel) ?_
  refine nm_r (e' := (1 : Int32)) (by decide +kernel) ?_
  refine br_f (by decide +kernel) ?_
  refine ⟨(by decide +kernel), ?_⟩
  refine nm_r (e' := (3 : Int32)) (by decide +kernel) ?_
  refine ⟨rx_in6_3, ?_⟩
  refine br_f (by decide +kernel) ?_
  refine ⟨rx_in6_3, ?_⟩
  refine br_f (by decide +kernel) ?_
  refine ⟨rx_in6_3, ?_⟩
  refine br_f (by decide +kernel) ?_
  refine br_t (by decide +kernel) ?_
  refine ⟨rx_in6_3, ?_⟩
  refine br_f (by decide +kernel) ?_
  refine nm_r (e' := (0 : Int32)) (by decide +kernel) ?_
  refine nm_r (e' := (2 : Int32)) (by decide +kernel) ?_
  refine br_t (by decide +kernel) ?_
  exact hp
theorem rx_beg_8 {post : St2 → Prop} {f0_size f0_at f0_state f0_count f0_guessBits f0_fetchAt f0_fetching : Int32} {a1 a2 a3 a4 a5 a7 a9 a10 a11 a12 a13 a14 a15 a16 a17 a18 a19 : Nat → Int32} (hp : post (f0_size, f0_at, f0_state, f0_count, f0_guessBits, f0_fetchAt, f0_fetching, 3, 1, a1, a2, a3, a4, a5, (rx_6 1 5 4 9 0 0), a7, (rx_6 2 2 2 2 0 0), a9, a10, a11, a12, a13, a14, a15, a16, a17, a18, a19)) :
    wpX_begin post (f0_size, f0_at, f0_state, f0_count, f0_guessBits, f0_fetchAt, f0_fetching, 3, 1, a1, a2, a3, a4, a5, (rx_6 1 5 4 9 0 0), a7, (rx_6 2 2 2 2 0 0), a9, a10, a11, a12, a13, a14, a15, a16, a17, a18, a19) := by
  refine ⟨7, ?_⟩
  refine br_f (by decide +kernel) ?_
  refine ⟨(by decide +kernel), ?_⟩
  refine nm_r (e' := (3 : Int32)) (by decide +kernel) ?_
  refine ⟨rx_in6_3, ?_⟩
  refine br_f (by decide +kernel) ?_
  refine nm_r (e' := (0 : Int32)) (by decide +kernel) ?_
  refine nm_r (e' := (1 : Int32)) (by decide +kernel) ?_
  refine br_t (by decide +kernel) ?_
  refine ⟨7, ?_⟩
  refine br_f (by decide +kernel) ?_
  refine ⟨(by decide +kernel), ?_⟩
  refine nm_r (e' := (3 : Int32)) (by decide +kernel) ?_
  refine ⟨rx_in6_3, ?_⟩
  refine br_f (by decide +kernel) ?_
  refine ⟨rx_in6_3, ?_⟩
  refine br_f (by decide +kernel) ?_
  refine ⟨rx_in6_3, ?_⟩
  refine br_f (by decide +kernel) ?_
  refine br_t (by decide +kernel) ?_
  refine ⟨rx_in6_3, ?_⟩
  refine br_f (by decide +kernel) ?_
  refine nm_r (e' := (0 : Int32)) (by decide +kernel) ?_
  refine nm_r (e' := (1 : Int32)) (by decide +kernel) ?_
  refine br_t (by decide +kernel) ?_
  exact hp
theorem rx_beg_9 {post : St2 → Prop} {f0_size f0_at f0_state f0_count f0_guessBits f0_fetchAt f0_fetching : Int32} {a1 a2 a3 a4 a5 a7 a10 a11 a12 a13 a14 a17 a18 a19 : Nat → Int32} (hp : post (f0_size, f0_at, f0_state, f0_count, f0_guessBits, f0_fetchAt, f0_fetching, 0, 1, a1, a2, a3, a4, a5, (rx_6 2 0 0 0 0 0), a7, (rx_6 1 0 0 0 0 0), (rx_6 3 0 0 0 0 0), a10, a11, a12, a13, a14, (rx_6 (-1) 0 0 0 0 0), (rx_6 (-1) 0 0 0 0 0), a17, a18, a19)) :
    wpX_begin post (f0_size, f0_at, f0_state, f0_count, f0_guessBits, f0_fetchAt, f0_fetching, 0, 1, a1, a2, a3, a4, a5, (rx_6 2 0 0 0 0 0), a7, (rx_6 0 0 0 0 0 0), (rx_6 0 0 0 0 0 0), a10, a11, a12, a13, a14, (rx_6 (-1) 0 0 0 0 0), (rx_6 (-1) 0 0 0 0 0), a17, a18, a19) := by
  refine ⟨7, ?_⟩
  refine br_f (by decide +kernel) ?_
  refine ⟨(by decide +kernel), ?_⟩
  refine nm_r (e' := (0 : Int32)) (by decide +kernel) ?_
  refine ⟨rx_in6_0, ?_⟩
  refine br_f (by decide +kernel) ?_
  refine nm_r (e' := (0 : Int32)) (by decide +kernel) ?_
  refine nm_r (e' := (1 : Int32)) (by decide +kernel) ?_
  refine br_t (by decide +kernel) ?_
  refine ⟨7, ?_⟩
  refine br_f (by decide +kernel) ?_
  refine ⟨(by decide +kernel), ?_⟩
  refine nm_r (e' := (0 : Int32)) (by decide +kernel) ?_
  refine ⟨rx_in6_0, ?_⟩
  refine br_t (by decide +kernel) ?_
  refine ⟨rx_in6_0, ?_⟩
  refine br_t (by decide +kernel) ?_
  refine ⟨rx_in6_0, ?_⟩
  refine br_f (by decide +kernel) ?_
  refine ⟨rx_in6_0, ?_⟩
  refine br_f (by decide +kernel) ?_
  refine br_f (by decide +kernel) ?_
  refine br_f (by decide +kernel) ?_
  refine br_t (by decide +kernel) ?_
  refine ⟨rx_in6_0, ?_⟩
  refine br_f (by decide +kernel) ?_
  refine ⟨rx_in6_0, ?_⟩
  refine nm_r (e' := (rx_6 1 0 0 0 0 0)) (rx_u0 rfl rfl) ?_
  refine ⟨rx_in6_0, ?_⟩
  refine br_f (by decide +kernel) ?_
  refine br_t (by decide +kernel) ?_
  refine ⟨rx_in6_0, ?_⟩
  refine nm_r (e' := (rx_6 3 0 0 0 0 0)) (rx_u0 rfl (by decide +kernel)) ?_
  refine nm_r (e' := (1 : Int32)) (by decide +kernel) ?_
  refine ⟨rx_in6_0, ?_⟩
  refine br_f (by decide +kernel) ?_
  refine nm_r (e' := (0 : Int32)) (by decide +kernel) ?_
  refine nm_r (e' := (1 : Int32)) (by decide +kernel) ?_
  refine br_t (by decide +kernel) ?_
  exact hp
theorem rx_beg_10 {post : St2 → Prop} {f0_size f0_at f0_state f0_count f0_guessBits f0_fetchAt f0_fetching : Int32} {a1 a2 a3 a4 a5 a7 a9 a10 a11 a12 a13 a14 a16 a17 a18 a19 : Nat → Int32} (hp : post (f0_size, f0_at, f0_state, f0_count, f0_guessBits, f0_fetchAt, f0_fetching, 0, 2, a1, a2, a3, a4, a5, (rx_6 2 5 0 0 0 0), a7, (rx_6 1 0 0 0 0 0), a9, a10, a11, a12, a13, a14, (rx_6 (-1) 0 0 0 0 0), a16, a17, a18, a19)) :
    wpX_begin post (f0_size, f0_at, f0_state, f0_count, f0_guessBits, f0_fetchAt, f0_fetching, 0, 2, a1, a2, a3, a4, a5, (rx_6 2 5 0 0 0 0), a7, (rx_6 1 0 0 0 0 0), a9, a10, a11, a12, a13, a14, (rx_6 (-1) 0 0 0 0 0), a16, a17, a18, a19) := by
  refine ⟨7, ?_⟩
  refine br_f (by decide +kernel) ?_
  refine ⟨(by decide +kernel), ?_⟩
  refine nm_r (e' := (0 : Int32)) (by decide +kernel) ?_
  refine ⟨rx_in6_0, ?_⟩
  refine br_t (by decide +kernel) ?_
  refine ⟨rx_in6_0, ?_⟩
  refine br_t (by decide +kernel) ?_
  refine nm_r (e' := (1 : Int32)) (by decide +kernel) ?_
  refine nm_r (e' := (1 : Int32)) (by decide +kernel) ?_
  refine br_f (by decide +kernel) ?_
  refine ⟨(by decide +kernel), ?_⟩
  refine nm_r (e' := (1 : Int32)) (by decide +kernel) ?_
  refine ⟨rx_in6_1, ?_⟩
  refine br_f (by decide +kernel) ?_
  refine nm_r (e' := (1 : Int32)) (by decide +kernel) ?_
  refine nm_r (e' := (2 : Int32)) (by decide +kernel) ?_
  refine br_t (by decide +kernel) ?_
  refine ⟨7, ?_⟩
  refine br_f (by decide +kernel) ?_
  refine ⟨(by decide +kernel), ?_⟩
  refine nm_r (e' := (0 : Int32)) (by decide +kernel) ?_
  refine ⟨rx_in6_0, ?_⟩
  refine br_t (by decide +kernel) ?_
  refine ⟨rx_in6_0, ?_⟩
  refine br_f (by decide +kernel) ?_
  refine br_t (by decide +kernel) ?_
  refine ⟨rx_in6_0, ?_⟩
  refine br_f (by decide +kernel) ?_
  refine nm_r (e' := (0 : Int32)) (by decide +kernel) ?_
  refine nm_r (e' := (1 : Int32)) (by decide +kernel) ?_
  refine br_f (by decide +kernel) ?_
  refine ⟨(by decide +kernel), ?_⟩
  refine nm_r (e' := (1 : Int32)) (by decide +kernel) ?_
  refine ⟨rx_in6_1, ?_⟩
  refine br_f (by decide +kernel) ?_
  refine ⟨rx_in6_1, ?_⟩
  refine br_f (by decide +kernel) ?_
  refine ⟨rx_in6_1, ?_⟩
  refine br_t (by decide +kernel) ?_
  refine ⟨rx_in6_1, ?_⟩
  refine br_t (by decide +kernel) ?_
  refine br_t (by decide +kernel) ?_
  refine ⟨rx_in6_1, ?_⟩
  refine br_t (by decide +kernel) ?_
  refine nm_r (e' := (1 : Int32)) (by decide +kernel) ?_
  refine nm_r (e' := (2 : Int32)) (by decide +kernel) ?_
  refine br_t (by decide +kernel) ?_
  exact hp
theorem rx_beg_11 {post : St2 → Prop} {f0_size f0_at f0_state f0_count f0_guessBits f0_fetchAt f0_fetching : Int32} {a1 a2 a3 a4 a5 a7 a9 a10 a11 a12 a13 a14 a17 a18 a19 : Nat → Int32} (hp : post (f0_size, f0_at, f0_state, f0_count, f0_guessBits, f0_fetchAt, f0_fetching, 0, 3, a1, a2, a3, a4, a5, (rx_6 2 5 4 0 0 0), a7, (rx_6 1 0 0 0 0 0), a9, a10, a11, a12, a13, a14, (rx_6 (-1) 0 (-1) 0 0 0), (rx_6 (-1) (-1) (-1) 0 0 0), a17, a18, a19)) :
    wpX_begin post (f0_size, f0_at, f0_state, f0_count, f0_guessBits, f0_fetchAt, f0_fetching, 0, 3, a1, a2, a3, a4, a5, (rx_6 2 5 4 0 0 0), a7, (rx_6 1 0 0 0 0 0), a9, a10, a11, a12, a13, a14, (rx_6 (-1) 0 (-1) 0 0 0), (rx_6 (-1) (-1) (-1) 0 0 0), a17, a18, a19) := by
  refine ⟨7, ?_⟩
  refine br_f (by decide +kernel) ?_
  refine ⟨(by decide +kernel), ?_⟩
  refine nm_r (e' := (0 : Int32)) (by decide +kernel) ?_
  refine ⟨rx_in6_0, ?_⟩
  refine br_t (by decide +kernel) ?_
  refine ⟨rx_in6_0, ?_⟩
  refine br_t (by decide +kernel) ?_
  refine nm_r (e' := (1 : Int32)) (by decide +kernel) ?_
  refine nm_r (e' := (1 : Int32)) (by decide +kernel) ?_
  refine br_f (by decide +kernel) ?_
  refine ⟨(by decide +kernel), ?_⟩
  refine nm_r (e' := (1 : Int32)) (by decide +kernel) ?_
  refine ⟨rx_in6_1, ?_⟩
  refine br_f (by decide +kernel) ?_
  refine nm_r (e' := (1 : Int32)) (by decide +kernel) ?_
  refine nm_r (e' := (2 : Int32)) (by decide +kernel) ?_
  refine br_f (by decide +kernel) ?_
  refine ⟨(by decide +kernel), ?_⟩
  refine nm_r (e' := (2 : Int32)) (by decide +kernel) ?_
  refine ⟨rx_in6_2, ?_⟩
  refine br_f (by decide +kernel) ?_
  refine nm_r (e' := (1 : Int32)) (by decide +kernel) ?_
  refine nm_r (e' := (3 : Int32)) (by decide +kernel) ?_
  refine br_t (by decide +kernel) ?_
  refine ⟨7, ?_⟩
  refine br_f (by decide +kernel) ?_
  refine ⟨(by decide +kernel), ?_⟩
  refine nm_r (e' := (0 : Int32)) (by decide +kernel) ?_
  refine ⟨rx_in6_0, ?_⟩
  refine br_t (by decide +kernel) ?_
  refine ⟨rx_in6_0, ?_⟩
  refine br_f (by decide +kernel) ?_
  refine br_t (by decide +kernel) ?_
  refine ⟨rx_in6_0, ?_⟩
  refine br_f (by decide +kernel) ?_
  refine nm_r (e' := (0 : Int32)) (by decide +kernel) ?_
  refine nm_r (e' := (1 : Int32)) (by decide +kernel) ?_
  refine br_f (by decide +kernel) ?_
  refine ⟨(by decide +kernel), ?_⟩
  refine nm_r (e' := (1 : Int32)) (by decide +kernel) ?_
  refine ⟨rx_in6_1, ?_⟩
  refine br_f (by decide +kernel) ?_
  refine ⟨rx_in6_1, ?_⟩
  refine br_f (by decide +kernel) ?_
  refine ⟨rx_in6_1, ?_⟩
  refine br_t (by decide +kernel) ?_
  refine ⟨rx_in6_1, ?_⟩
  refine br_t (by decide +kernel) ?_
  refine br_t (by decide +kernel) ?_
  refine ⟨rx_in6_1, ?_⟩
  refine br_t (by decide +kernel) ?_
  refine nm_r (e' := (1 : Int32)) (by decide +kernel) ?_
  refine nm_r (e' := (2 : Int32)) (by decide +kernel) ?_
  refine br_f (by decide +kernel) ?_
  refine ⟨(by decide +kernel), ?_⟩
  refine nm_r (e' := (2 : Int32)) (by decide +kernel) ?_
  refine ⟨rx_in6_2, ?_⟩
  refine br_f (by decide +kernel) ?_
  refine ⟨rx_in6_2, ?_⟩
  refine br_f (by decide +kernel) ?_
  refine ⟨rx_in6_2, ?_⟩
  refine br_t (by decide +kernel) ?_
  refine ⟨rx_in6_2, ?_⟩
  refine br_f (by decide +kernel) ?_
  refine ⟨rx_in6_2, ?_⟩
  refine br_f (by decide +kernel) ?_
  refine br_f (by decide +kernel) ?_
  refine br_t (by decide +kernel) ?_
  refine ⟨rx_in6_2, ?_⟩
  refine br_t (by decide +kernel) ?_
  refine br_f (by decide +kernel) ?_
  refine ⟨rx_in6_2, ?_⟩
  refine br_f (by decide +kernel) ?_
  refine nm_r (e' := (1 : Int32)) (by decide +kernel) ?_
  refine nm_r (e' := (3 : Int32)) (by decide +kernel) ?_
  refine br_t (by decide +kernel) ?_
  exact hp
theorem rx_beg_12 {post : St2 → Prop} {f0_size f0_at f0_state f0_count f0_guessBits f0_fetchAt f0_fetching : Int32} {a1 a2 a3 a4 a5 a7 a10 a11 a12 a13 a14 a17 a18 a19 : Nat → Int32} (hp : post (f0_size, f0_at, f0_state, f0_count, f0_guessBits, f0_fetchAt, f0_fetching, 0, 4, a1, a2, a3, a4, a5, (rx_6 2 5 4 9 0 0), a7, (rx_6 2 1 0 1 0 0), (rx_6 0 1 0 1 0 0), a10, a11, a12, a13, a14, (rx_6 (-1) (-1) (-1) (-1) 0 0), (rx_6 (-1) (-1) (-1) (-1) 0 0), a17, a18, a19)) :
    wpX_begin post (f0_size, f0_at, f0_state, f0_count, f0_guessBits, f0_fetchAt, f0_fetching, 0, 4, a1, a2, a3, a4, a5, (rx_6 2 5 4 9 0 0), a7, (rx_6 2 0 0 0 0 0), (rx_6 0 0 0 0 0 0), a10, a11, a12, a13, a14, (rx_6 (-1) (-1) (-1) (-1) 0 0), (rx_6 (-1) (-1) (-1) (-1) 0 0), a17, a18, a19) := by
  refine ⟨7, ?_⟩
  refine br_f (by decide +kernel) ?_
  refine ⟨(by decide +kernel), ?_⟩
  refine nm_r (e' := (0 : Int32)) (by decide +kernel) ?_
  refine ⟨rx_in6_0, ?_⟩
  refine br_f (by decide +kernel) ?_
  refine nm_r (e' := (0 : Int32)) (by decide +kernel) ?_
  refine nm_r (e' := (1 : Int32)) (by decide +kernel) ?_
  refine br_f (by decide +kernel) ?_
  refine ⟨(by decide +kernel), ?_⟩
  refine nm_r (e' := (1 : Int32)) (by decide +kernel) ?_
  refine ⟨rx_in6_1, ?_⟩
  refine br_f (by decide +kernel) ?_
  refine nm_r (e' := (0 : Int32)) (by decide +kernel) ?_
  refine nm_r (e' := (2 : Int32)) (by decide +kernel) ?_
  refine br_f (by decide +kernel) ?_
  refine ⟨(by decide +kernel), ?_⟩
  refine nm_r (e' := (2 : Int32)) (by decide +kernel) ?_
  refine ⟨rx_in6_2, ?_⟩
  refine br_f (by decide +kernel) ?_
  refine nm_r (e' := (0 : Int32)) (by decide +kernel) ?_
  refine nm_r (e' := (3 : Int32)) (by decide +kernel) ?_
  refine br_f (by decide +kernel) ?_
  refine ⟨(by decide +kernel), ?_⟩
  refine nm_r (e' := (3 : Int32)) (by decide +kernel) ?_
  refine ⟨rx_in6_3, ?_⟩
  refine br_f (by decide +kernel) ?_
  refine nm_r (e' := (0 : Int32)) (by decide +kernel) ?_
  refine nm_r (e' := (4 : Int32)) (by decide +kernel) ?_
  refine br_t (by decide +kernel) ?_
  refine ⟨7, ?_⟩
  refine br_f (by decide +kernel) ?_
  refine ⟨(by decide +kernel), ?_⟩
  refine nm_r (e' := (0 : Int32)) (by decide +kernel) ?_
  refine ⟨rx_in6_0, ?_⟩
  refine br_t (by decide +kernel) ?_
  refine ⟨rx_in6_0, ?_⟩
  refine br_f (by decide +kernel) ?_
  refine br_t (by decide +kernel) ?_
  refine ⟨rx_in6_0, ?_⟩
  refine br_f (by decide +kernel) ?_
  refine nm_r (e' := (0 : Int32)) (by decide +kernel) ?_
  refine nm_r (e' := (1 : Int32)) (by decide +kernel) ?_
  refine br_f (by decide +kernel) ?_
  refine ⟨(by decide +kernel), ?_⟩
  refine nm_r (e' := (1 : Int32)) (by decide +kernel) ?_
  refine ⟨rx_in6_1, ?_⟩
  refine br_f (by decide +kernel) ?_
  refine ⟨rx_in6_1, ?_⟩
  refine br_f (by decide +kernel) ?_
  refine ⟨rx_in6_1, ?_⟩
  refine br_t (by decide +kernel) ?_
  refine ⟨rx_in6_1, ?_⟩
  refine br_f (by decide +kernel) ?_
  refine ⟨rx_in6_1, ?_⟩
  refine br_f (by decide +kernel) ?_
  refine br_f (by decide +kernel) ?_
  refine br_t (by decide +kernel) ?_
  refine ⟨rx_in6_1, ?_⟩
  refine br_f (by decide +kernel) ?_
  refine ⟨rx_in6_1, ?_⟩
  refine nm_r (e' := (rx_6 2 1 0 0 0 0)) (rx_u1 rfl rfl) ?_
  refine ⟨rx_in6_1, ?_⟩
  refine br_f (by decide +kernel) ?_
  refine br_f (by decide +kernel) ?_
  refine br_f (by decide +kernel) ?_
  refine ⟨rx_in6_1, ?_⟩
  refine nm_r (e' := (rx_6 0 1 0 0 0 0)) (rx_u1 rfl (by decide +kernel)) ?_
  refine nm_r (e' := (0 : Int32)) (by decide +kernel) ?_
  refine ⟨rx_in6_1, ?_⟩
  refine br_t (by decide +kernel) ?_
  refine nm_r (e' := (1 : Int32)) (by decide +kernel) ?_
  refine nm_r (e' := (2 : Int32)) (by decide +kernel) ?_
  refine br_f (by decide +kernel) ?_
  refine ⟨(by decide +kernel), ?_⟩
  refine nm_r (e' := (2 : Int32)) (by decide +kernel) ?_
  refine ⟨rx_in6_2, ?_⟩
  refine br_f (by decide +kernel) ?_
  refine ⟨rx_in6_2, ?_⟩
  refine br_f (by decide +kernel) ?_
  refine ⟨rx_in6_2, ?_⟩
  refine br_t (by decide +kernel) ?_
  refine ⟨rx_in6_2, ?_⟩
  refine br_f (by decide +kernel) ?_
  refine ⟨rx_in6_2, ?_⟩
  refine br_f (by decide +kernel) ?_
  refine br_f (by decide +kernel) ?_
  refine br_t (by decide +kernel) ?_
  refine ⟨rx_in6_2, ?_⟩
  refine br_t (by decide +kernel) ?_
  refine br_f (by decide +kernel) ?_
  refine ⟨rx_in6_2, ?_⟩
  refine br_f (by decide +kernel) ?_
  refine nm_r (e' := (1 : Int32)) (by decide +kernel) ?_
  refine nm_r (e' := (3 : Int32)) (by decide +kernel) ?_
  refine br_f (by decide +kernel) ?_
  refine ⟨(by decide +kernel), ?_⟩
  refine nm_r (e' := (3 : Int32)) (by decide +kernel) ?_
  refine ⟨rx_in6_3, ?_⟩
  refine br_f (by decide +kernel) ?_
  refine ⟨rx_in6_3, ?_⟩
  refine br_f (by decide +kernel) ?_
  refine ⟨rx_in6_3, ?_⟩
  refine br_t (by decide +kernel) ?_
  refine ⟨rx_in6_3, ?_⟩
  refine br_f (by decide +kernel) ?_
  refine ⟨rx_in6_3, ?_⟩
  refine br_f (by decide +kernel) ?_
  refine br_f (by decide +kernel) ?_
  refine br_t (by decide +kernel) ?_
  refine ⟨rx_in6_3, ?_⟩
  refine br_f (by decide +kernel) ?_
  refine ⟨rx_in6_3, ?_⟩
  refine nm_r (e' := (rx_6 2 1 0 1 0 0)) (rx_u3 rfl rfl) ?_
  refine ⟨rx_in6_3, ?_⟩
  refine br_f (by decide +kernel) ?_
  refine br_f (by decide +kernel) ?_
  refine br_f (by decide +kernel) ?_
  refine ⟨rx_in6_3, ?_⟩
  refine nm_r (e' := (rx_6 0 1 0 1 0 0)) (rx_u3 rfl (by decide +kernel)) ?_
  refine nm_r (e' := (0 : Int32)) (by decide +kernel) ?_
  refine ⟨rx_in6_3, ?_⟩
  refine br_f (by decide +kernel) ?_
  refine nm_r (e' := (1 : Int32)) (by decide +kernel) ?_
  refine nm_r (e' := (4 : Int32)) (by decide +kernel) ?_
  refine br_t (by decide +kernel) ?_
  exact hp
theorem rx_beg_13 {post : St2 → Prop} {f0_size f0_at f0_state f0_count f0_guessBits f0_fetchAt f0_fetching : Int32} {a1 a2 a3 a4 a5 a7 a9 a10 a11 a12 a13 a14 a17 a18 a19 : Nat → Int32} (hp : post (f0_size, f0_at, f0_state, f0_count, f0_guessBits, f0_fetchAt, f0_fetching, 1, 3, a1, a2, a3, a4, a5, (rx_6 2 5 4 9 0 0), a7, (rx_6 2 2 0 1 0 0), a9, a10, a11, a12, a13, a14, (rx_6 (-1) (-1) (-1) (-1) 0 0), (rx_6 (-1) (-1) (-1) (-1) 0 0), a17, a18, a19)) :
    wpX_begin post (f0_size, f0_at, f0_state, f0_count, f0_guessBits, f0_fetchAt, f0_fetching, 1, 3, a1, a2, a3, a4, a5, (rx_6 2 5 4 9 0 0), a7, (rx_6 2 2 0 1 0 0), a9, a10, a11, a12, a13, a14, (rx_6 (-1) (-1) (-1) (-1) 0 0), (rx_6 (-1) (-1) (-1) (-1) 0 0), a17, a18, a19) := by
  refine ⟨7, ?_⟩
  refine br_f (by decide +kernel) ?_
  refine ⟨(by decide +kernel), ?_⟩
  refine nm_r (e' := (1 : Int32)) (by decide +kernel) ?_
  refine ⟨rx_in6_1, ?_⟩
  refine br_f (by decide +kernel) ?_
  refine nm_r (e' := (0 : Int32)) (by decide +kernel) ?_
  refine nm_r (e' := (1 : Int32)) (by decide +kernel) ?_
  refine br_f (by decide +kernel) ?_
  refine ⟨(by decide +kernel), ?_⟩
  refine nm_r (e' := (2 : Int32)) (by decide +kernel) ?_
  refine ⟨rx_in6_2, ?_⟩
  refine br_f (by decide +kernel) ?_
  refine nm_r (e' := (0 : Int32)) (by decide +kernel) ?_
  refine nm_r (e' := (2 : Int32)) (by decide +kernel) ?_
  refine br_f (by decide +kernel) ?_
  refine ⟨(by decide +kernel), ?_⟩
  refine nm_r (e' := (3 : Int32)) (by decide +kernel) ?_
  refine ⟨rx_in6_3, ?_⟩
  refine br_t (by decide +kernel) ?_
  refine ⟨rx_in6_3, ?_⟩
  refine br_f (by decide +kernel) ?_
  refine ⟨rx_in6_3, ?_⟩
  refine br_f (by decide +kernel) ?_
  refine nm_r (e' := (0 : Int32)) (by decide +kernel) ?_
  refine nm_r (e' := (3 : Int32)) (by decide +kernel) ?_
  refine br_t (by decide +kernel) ?_
  refine ⟨7, ?_⟩
  refine br_f (by decide +kernel) ?_
  refine ⟨(by decide +kernel), ?_⟩
  refine nm_r (e' := (1 : Int32)) (by decide +kernel) ?_
  refine ⟨rx_in6_1, ?_⟩
  refine br_f (by decide +kernel) ?_
  refine ⟨rx_in6_1, ?_⟩
  refine br_f (by decide +kernel) ?_
  refine ⟨rx_in6_1, ?_⟩
  refine br_f (by decide +kernel) ?_
  refine br_t (by decide +kernel) ?_
  refine ⟨rx_in6_1, ?_⟩
  refine br_t (by decide +kernel) ?_
  refine nm_r (e' := (1 : Int32)) (by decide +kernel) ?_
  refine nm_r (e' := (1 : Int32)) (by decide +kernel) ?_
  refine br_f (by decide +kernel) ?_
  refine ⟨(by decide +kernel), ?_⟩
  refine nm_r (e' := (2 : Int32)) (by decide +kernel) ?_
  refine ⟨rx_in6_2, ?_⟩
  refine br_f (by decide +kernel) ?_
  refine ⟨rx_in6_2, ?_⟩
  refine br_f (by decide +kernel) ?_
  refine ⟨rx_in6_2, ?_⟩
  refine br_t (by decide +kernel) ?_
  refine ⟨rx_in6_2, ?_⟩
  refine br_f (by decide +kernel) ?_
  refine ⟨rx_in6_2, ?_⟩
  refine br_f (by decide +kernel) ?_
  refine br_f (by decide +kernel) ?_
  refine br_t (by decide +kernel) ?_
  refine ⟨rx_in6_2, ?_⟩
  refine br_t (by decide +kernel) ?_
  refine br_f (by decide +kernel) ?_
  refine ⟨rx_in6_2, ?_⟩
  refine br_f (by decide +kernel) ?_
  refine nm_r (e' := (1 : Int32)) (by decide +kernel) ?_
  refine nm_r (e' := (2 : Int32)) (by decide +kernel) ?_
  refine br_f (by decide +kernel) ?_
  refine ⟨(by decide +kernel), ?_⟩
  refine nm_r (e' := (3 : Int32)) (by decide +kernel) ?_
  refine ⟨rx_in6_3, ?_⟩
  refine br_f (by decide +kernel) ?_
  refine ⟨rx_in6_3, ?_⟩
  refine br_f (by decide +kernel) ?_
  refine ⟨rx_in6_3, ?_⟩
  refine br_f (by decide +kernel) ?_
  refine br_t (by decide +kernel) ?_
  refine ⟨rx_in6_3, ?_⟩
  refine br_f (by decide +kernel) ?_
  refine nm_r (e' := (1 : Int32)) (by decide +kernel) ?_
  refine nm_r (e' := (3 : Int32)) (by decide +kernel) ?_
  refine br_t (by decide +kernel) ?_
  exact hp
theorem rx_beg_14 {post : St2 → Prop} {f0_size f0_at f0_state f0_count f0_guessBits f0_fetchAt f0_fetching : Int32} {a1 a2 a3 a4 a5 a7 a10 a11 a12 a13 a14 a17 a18 a19 : Nat → Int32} (hp : post (f0_size, f0_at, f0_state, f0_count, f0_guessBits, f0_fetchAt, f0_fetching, 2, 2, a1, a2, a3, a4, a5, (rx_6 2 5 4 9 0 0), a7, (rx_6 2 2 1 2 0 0), (rx_6 0 0 2 0 0 0), a10, a11, a12, a13, a14, (rx_6 (-1) (-1) (-1) (-1) 0 0), (rx_6 (-1) (-1) (-1) (-1) 0 0), a17, a18, a19)) :
    wpX_begin post (f0_size, f0_at, f0_state, f0_count, f0_guessBits, f0_fetchAt, f0_fetching, 2, 2, a1, a2, a3, a4, a5, (rx_6 2 5 4 9 0 0), a7, (rx_6 2 2 0 2 0 0), (rx_6 0 0 0 0 0 0), a10, a11, a12, a13, a14, (rx_6 (-1) (-1) (-1) (-1) 0 0), (rx_6 (-1) (-1) (-1) (-1) 0 0), a17, a18, a19) := by
  refine ⟨7, ?_⟩
  refine br_f (by decide +kernel) ?_
  refine ⟨(by decide +kernel), ?_⟩
  refine nm_r (e' := (2 : Int32)) (by decide +kernel) ?_
  refine ⟨rx_in6_2, ?_⟩
  refine br_f (by decide +kernel) ?_
  refine nm_r (e' := (0 : Int32)) (by decide +kernel) ?_
  refine nm_r (e' := (1 : Int32)) (by decide +kernel) ?_
  refine br_f (by decide +kernel) ?_
  refine ⟨(by decide +kernel), ?_⟩
  refine nm_r (e' := (3 : Int32)) (by decide +kernel) ?_
  refine ⟨rx_in6_3, ?_⟩
  refine br_f (by decide +kernel) ?_
  refine nm_r (e' := (0 : Int32)) (by decide +kernel) ?_
  refine nm_r (e' := (2 : Int32)) (by decide +kernel) ?_
  refine br_t (by decide +kernel) ?_
  refine ⟨7, ?_⟩
  refine br_f (by decide +kernel) ?_
  refine ⟨(by decide +kernel), ?_⟩
  refine nm_r (e' := (2 : Int32)) (by decide +kernel) ?_
  refine ⟨rx_in6_2, ?_⟩
  refine br_f (by decide +kernel) ?_
  refine ⟨rx_in6_2, ?_⟩
  refine br_f (by decide +kernel) ?_
  refine ⟨rx_in6_2, ?_⟩
  refine br_t (by decide +kernel) ?_
  refine ⟨rx_in6_2, ?_⟩
  refine br_f (by decide +kernel) ?_
  refine ⟨rx_in6_2, ?_⟩
  refine br_f (by decide +kernel) ?_
  refine br_f (by decide +kernel) ?_
  refine br_t (by decide +kernel) ?_
  refine ⟨rx_in6_2, ?_⟩
  refine br_t (by decide +kernel) ?_
  refine br_t (by decide +kernel) ?_
  refine ⟨rx_in6_2, ?_⟩
  refine nm_r (e' := (rx_6 2 2 1 2 0 0)) (rx_u2 rfl rfl) ?_
  refine ⟨rx_in6_2, ?_⟩
  refine br_f (by decide +kernel) ?_
  refine br_f (by decide +kernel) ?_
  refine br_t (by decide +kernel) ?_
  refine ⟨rx_in6_2, ?_⟩
  refine nm_r (e' := (rx_6 0 0 2 0 0 0)) (rx_u2 rfl (by decide +kernel)) ?_
  refine nm_r (e' := (0 : Int32)) (by decide +kernel) ?_
  refine ⟨rx_in6_2, ?_⟩
  refine br_f (by decide +kernel) ?_
  refine nm_r (e' := (0 : Int32)) (by decide +kernel) ?_
  refine nm_r (e' := (1 : Int32)) (by decide +kernel) ?_
  refine br_f (by decide +kernel) ?_
  refine ⟨(by decide +kernel), ?_⟩
  refine nm_r (e' := (3 : Int32)) (by decide +kernel) ?_
  refine ⟨rx_in6_3, ?_⟩
  refine br_f (by decide +kernel) ?_
  refine ⟨rx_in6_3, ?_⟩
  refine br_f (by decide +kernel) ?_
  refine ⟨rx_in6_3, ?_⟩
  refine br_f (by decide +kernel) ?_
  refine br_t (by decide +kernel) ?_
  refine ⟨rx_in6_3, ?_⟩
  refine br_f (by decide +kernel) ?_
  refine nm_r (e' := (0 : Int32)) (by decide +kernel) ?_
  refine nm_r (e' := (2 : Int32)) (by decide +kernel) ?_
  refine br_t (by decide +kernel) ?_
  exact hp
theorem rx_beg_15 {post : St2 → Prop} {f0_size f0_at f0_state f0_count f0_guessBits f0_fetchAt f0_fetching : Int32} {a1 a2 a3 a4 a5 a7 a9 a10 a11 a12 a13 a14 a15 a16 a17 a18 a19 : Nat → Int32} (hp : post (f0_size, f0_at, f0_state, f0_count, f0_guessBits, f0_fetchAt, f0_fetching, 2, 2, a1, a2, a3, a4, a5, (rx_6 2 5 4 9 0 0), a7, (rx_6 2 2 1 2 0 0), a9, a10, a11, a12, a13, a14, a15, a16, a17, a18, a19)) :
    wpX_begin post (f0_size, f0_at, f0_state, f0_count, f0_guessBits, f0_fetchAt, f0_fetching, 2, 2, a1, a2, a3, a4, a5, (rx_6 2 5 4 9 0 0), a7, (rx_6 2 2 1 2 0 0), a9, a10, a11, a12, a13, a14, a15, a16, a17, a18, a19) := by
  refine ⟨7, ?_⟩
  refine br_f (by decide +kernel) ?_
  refine ⟨(by decide +kernel), ?_⟩
  refine nm_r (e' := (2 : Int32)) (by decide +kernel) ?_
  refine ⟨rx_in6_2, ?_⟩
  refine br_t (by decide +kernel) ?_
  refine ⟨rx_in6_2, ?_⟩
  refine br_f (by decide +kernel) ?_
  refine ⟨rx_in6_2, ?_⟩
  refine br_f (by decide +kernel) ?_
  refine nm_r (e' := (0 : Int32)) (by decide +kernel) ?_
  refine nm_r (e' := (1 : Int32)) (by decide +kernel) ?_
  refine br_f (by decide +kernel) ?_
  refine ⟨(by decide +kernel), ?_⟩
  refine nm_r (e' := (3 : Int32)) (by decide +kernel) ?_
  refine ⟨rx_in6_3, ?_⟩
  refine br_f (by decide +kernel) ?_
  refine nm_r (e' := (0 : Int32)) (by decide +kernel) ?_
  refine nm_r (e' := (2 : Int32)) (by decide +kernel) ?_
  refine br_t (by decide +kernel) ?_
  refine ⟨7, ?_⟩
  refine br_f (by decide +kernel) ?_
  refine ⟨(by decide +kernel), ?_⟩
  refine nm_r (e' := (2 : Int32)) (by decide +kernel) ?_
  refine ⟨rx_in6_2, ?_⟩
  refine br_f (by decide +kernel) ?_
  refine ⟨rx_in6_2, ?_⟩
  refine br_f (by decide +kernel) ?_
  refine ⟨rx_in6_2, ?_⟩
  refine br_f (by decide +kernel) ?_
  refine br_t (by decide +kernel) ?_
  refine ⟨rx_in6_2, ?_⟩
  refine br_f (by decide +kernel) ?_
  refine nm_r (e' := (0 : Int32)) (by decide +kernel) ?_
  refine nm_r (e' := (1 : Int32)) (by decide +kernel) ?_
  refine br_f (by decide +kernel) ?_
  refine ⟨(by decide +kernel), ?_⟩
  refine nm_r (e' := (3 : Int32)) (by decide +kernel) ?_
  refine ⟨rx_in6_3, ?_⟩
  refine br_f (by decide +kernel) ?_
  refine ⟨rx_in6_3, ?_⟩
  refine br_f (by decide +kernel) ?_
  refine ⟨rx_in6_3, ?_⟩
  refine br_f (by decide +kernel) ?_
  refine br_t (by decide +kernel) ?_
  refine ⟨rx_in6_3, ?_⟩
  refine br_f (by decide +kernel) ?_
  refine nm_r (e' := (0 : Int32)) (by decide +kernel) ?_
  refine nm_r (e' := (2 : Int32)) (by decide +kernel) ?_
  refine br_t (by decide +kernel) ?_
  exact hp
theorem rx_beg_16 {post : St2 → Prop} {f0_size f0_at f0_state f0_count f0_guessBits f0_fetchAt f0_fetching : Int32} {a1 a2 a3 a4 a5 a7 a9 a10 a11 a12 a13 a14 a15 a16 a17 a18 a19 : Nat → Int32} (hp : post (f0_size, f0_at, f0_state, f0_count, f0_guessBits, f0_fetchAt, f0_fetching, 2, 2, a1, a2, a3, a4, a5, (rx_6 2 5 4 9 0 0), a7, (rx_6 2 2 2 2 0 0), a9, a10, a11, a12, a13, a14, a15, a16, a17, a18, a19)) :
    wpX_begin post (f0_size, f0_at, f0_state, f0_count, f0_guessBits, f0_fetchAt, f0_fetching, 2, 2, a1, a2, a3, a4, a5, (rx_6 2 5 4 9 0 0), a7, (rx_6 2 2 2 2 0 0), a9, a10, a11, a12, a13, a14, a15, a16, a17, a18, a19) := by
  refine ⟨7, ?_⟩
  refine br_f (by decide +kernel) ?_
  refine ⟨(by decide +kernel), ?_⟩
  refine nm_r (e' := (2 : Int32)) (by decide +kernel) ?_
  refine ⟨rx_in6_2, ?_⟩
  refine br_f (by decide +kernel) ?_
  refine nm_r (e' := (0 : Int32)) (by decide +kernel) ?_
  refine nm_r (e' := (1 : Int32)) (by decide +kernel) ?_
  refine br_f (by decide +kernel) ?_
  refine ⟨(by decide +kernel), ?_⟩
  refine nm_r (e' := (3 : Int32)) (by decide +kernel) ?_
  refine ⟨rx_in6_3, ?_⟩
  refine br_f (by decide +kernel) ?_
  refine nm_r (e' := (0 : Int32)) (by decide +kernel) ?_
  refine nm_r (e' := (2 : Int32)) (by decide +kernel) ?_
  refine br_t (by decide +kernel) ?_
  refine ⟨7, ?_⟩
  refine br_f (by decide +kernel) ?_
  refine ⟨(by decide +kernel), ?_⟩
  refine nm_r (e' := (2 : Int32)) (by decide +kernel) ?_
  refine ⟨rx_in6_2, ?_⟩
  refine br_f (by decide +kernel) ?_
  refine ⟨rx_in6_2, ?_⟩
  refine br_f (by decide +kernel) ?_
  refine ⟨rx_in6_2, ?_⟩
  refine br_f (by decide +kernel) ?_
  refine br_t (by decide +kernel) ?_
  refine ⟨rx_in6_2, ?_⟩
  refine br_f (by decide +kernel) ?_
  refine nm_r (e' := (0 : Int32)) (by decide +kernel) ?_
  refine nm_r (e' := (1 : Int32)) (by decide +kernel) ?_
  refine br_f (by decide +kernel) ?_
  refine ⟨(by decide +kernel), ?_⟩
  refine nm_r (e' := (3 : Int32)) (by decide +kernel) ?_
  refine ⟨rx_in6_3, ?_⟩
  refine br_f (by decide +kernel) ?_
  refine ⟨rx_in6_3, ?_⟩
  refine br_f (by decide +kernel) ?_
  refine ⟨rx_in6_3, ?_⟩
  refine br_f (by decide +kernel) ?_
  refine br_t (by decide +kernel) ?_
  refine ⟨rx_in6_3, ?_⟩
  refine br_f (by decide +kernel) ?_
  refine nm_r (e' := (0 : Int32)) (by decide +kernel) ?_
  refine nm_r (e' := (2 : Int32)) (by decide +kernel) ?_
  refine br_t (by decide +kernel) ?_
  exact hp
theorem rx_beg_17 {post : St2 → Prop} {f0_size f0_at f0_state f0_count f0_guessBits f0_fetchAt f0_fetching : Int32} {a1 a2 a3 a4 a5 a7 a9 a10 a11 a12 a13 a14 a15 a16 a17 a18 a19 : Nat → Int32} (hp : post (f0_size, f0_at, f0_state, f0_count, f0_guessBits, f0_fetchAt, f0_fetching, 3, 1, a1, a2, a3, a4, a5, (rx_6 2 5 4 9 0 0), a7, (rx_6 2 2 2 2 0 0), a9, a10, a11, a12, a13, a14, a15, a16, a17, a18, a19)) :
    wpX_begin post (f0_size, f0_at, f0_state, f0_count, f0_guessBits, f0_fetchAt, f0_fetching, 3, 1, a1, a2, a3, a4, a5, (rx_6 2 5 4 9 0 0), a7, (rx_6 2 2 2 2 0 0), a9, a10, a11, a12, a13, a14, a15, a16, a17, a18, a19) := by
  refine ⟨7, ?_⟩
  refine br_f (by decide +kernel) ?_
  refine ⟨(by decide +kernel), ?_⟩
  refine nm_r (e' := (3 : Int32)) (by decide +kernel) ?_
  refine ⟨rx_in6_3, ?_⟩
  refine br_f (by decide +kernel) ?_
  refine nm_r (e' := (0 : Int32)) (by decide +kernel) ?_
  refine nm_r (e' := (1 : Int32)) (by decide +kernel) ?_
  refine br_t (by decide +kernel) ?_
  refine ⟨7, ?_⟩
  refine br_f (by decide +kernel) ?_
  refine ⟨(by decide +kernel), ?_⟩
  refine nm_r (e' := (3 : Int32)) (by decide +kernel) ?_
  refine ⟨rx_in6_3, ?_⟩
  refine br_f (by decide +kernel) ?_
  refine ⟨rx_in6_3, ?_⟩
  refine br_f (by decide +kernel) ?_
  refine ⟨rx_in6_3, ?_⟩
  refine br_f (by decide +kernel) ?_
  refine br_t (by decide +kernel) ?_
  refine ⟨rx_in6_3, ?_⟩
  refine br_f (by decide +kernel) ?_
  refine nm_r (e' := (0 : Int32)) (by decide +kernel) ?_
  refine nm_r (e' := (1 : Int32)) (by decide +kernel) ?_
  refine br_t (by decide +kernel) ?_
  exact hp
theorem rx_beg_18 {post : St2 → Prop} {f0_size f0_at f0_state f0_count f0_guessBits f0_fetchAt f0_fetching : Int32} {a1 a2 a3 a4 a5 a7 a10 a11 a12 a13 a14 a17 a18 a19 : Nat → Int32} (hp : post (f0_size, f0_at, f0_state, f0_count, f0_guessBits, f0_fetchAt, f0_fetching, 0, 1, a1, a2, a3, a4, a5, (rx_6 3 0 0 0 0 0), a7, (rx_6 1 0 0 0 0 0), (rx_6 5 0 0 0 0 0), a10, a11, a12, a13, a14, (rx_6 (-1) 0 0 0 0 0), (rx_6 (-1) 0 0 0 0 0), a17, a18, a19)) :
    wpX_begin post (f0_size, f0_at, f0_state, f0_count, f0_guessBits, f0_fetchAt, f0_fetching, 0, 1, a1, a2, a3, a4, a5, (rx_6 3 0 0 0 0 0), a7, (rx_6 0 0 0 0 0 0), (rx_6 0 0 0 0 0 0), a10, a11, a12, a13, a14, (rx_6 (-1) 0 0 0 0 0), (rx_6 (-1) 0 0 0 0 0), a17, a18, a19) := by
  refine ⟨7, ?_⟩
  refine br_f (by decide +kernel) ?_
  refine ⟨(by decide +kernel), ?_⟩
  refine nm_r (e' := (0 : Int32)) (by decide +kernel) ?_
  refine ⟨rx_in6_0, ?_⟩
  refine br_f (by decide +kernel) ?_
  refine nm_r (e' := (0 : Int32)) (by decide +kernel) ?_
  refine nm_r (e' := (1 : Int32)) (by decide +kernel) ?_
  refine br_t (by decide +kernel) ?_
  refine ⟨7, ?_⟩
  refine br_f (by decide +kernel) ?_
  refine ⟨(by decide +kernel), ?_⟩
  refine nm_r (e' := (0 : Int32)) (by decide +kernel) ?_
  refine ⟨rx_in6_0, ?_⟩
  refine br_f (by decide +kernel) ?_
  refine ⟨rx_in6_0, ?_⟩
  refine br_t (by decide +kernel) ?_
  refine ⟨rx_in6_0, ?_⟩
  refine br_t (by decide +kernel) ?_
  refine ⟨rx_in6_0, ?_⟩
  refine br_f (by decide +kernel) ?_
  refine ⟨rx_in6_0, ?_⟩
  refine br_f (by decide +kernel) ?_
  refine br_f (by decide +kernel) ?_
  refine br_f (by decide +kernel) ?_
  refine br_t (by decide +kernel) ?_
  refine ⟨rx_in6_0, ?_⟩
  refine br_f (by decide +kernel) ?_
  refine ⟨rx_in6_0, ?_⟩
  refine nm_r (e' := (rx_6 1 0 0 0 0 0)) (rx_u0 rfl rfl) ?_
  refine ⟨rx_in6_0, ?_⟩
  refine br_t (by decide +kernel) ?_
  refine ⟨rx_in6_0, ?_⟩
  refine nm_r (e' := (rx_6 5 0 0 0 0 0)) (rx_u0 rfl (by decide +kernel)) ?_
  refine nm_r (e' := (1 : Int32)) (by decide +kernel) ?_
  refine ⟨rx_in6_0, ?_⟩
  refine br_f (by decide +kernel) ?_
  refine nm_r (e' := (0 : Int32)) (by decide +kernel) ?_
  refine nm_r (e' := (1 : Int32)) (by decide +kernel) ?_
  refine br_t (by decide +kernel) ?_
  exact hp
theorem rx_beg_19 {post : St2 → Prop} {f0_size f0_at f0_state f0_count f0_guessBits f0_fetchAt f0_fetching : Int32} {a1 a2 a3 a4 a5 a7 a9 a10 a11 a12 a13 a14 a16 a17 a18 a19 : Nat → Int32} (hp : post (f0_size, f0_at, f0_state, f0_count, f0_guessBits, f0_fetchAt, f0_fetching, 0, 2, a1, a2, a3, a4, a5, (rx_6 3 5 0 0 0 0), a7, (rx_6 1 0 0 0 0 0), a9, a10, a11, a12, a13, a14, (rx_6 (-1) 0 0 0 0 0), a16, a17, a18, a19)) :
    wpX_begin post (f0_size, f0_at, f0_state, f0_count, f0_guessBits, f0_fetchAt, f0_fetching, 0, 2, a1, a2, a3, a4, a5, (rx_6 3 5 0 0 0 0), a7, (rx_6 1 0 0 0 0 0), a9, a10, a11, a12, a13, a14, (rx_6 (-1) 0 0 0 0 0), a16, a17, a18, a19) := by
  refine ⟨7, ?_⟩
  refine br_f (by decide +kernel) ?_
  refine ⟨(by decide +kernel), ?_⟩
  refine nm_r (e' := (0 : Int32)) (by decide +kernel) ?_
  refine ⟨rx_in6_0, ?_⟩
  refine br_t (by decide +kernel) ?_
  refine ⟨rx_in6_0, ?_⟩
  refine br_f (by decide +kernel) ?_
  refine ⟨rx_in6_0, ?_⟩
  refine br_t (by decide +kernel) ?_
  refine nm_r (e' := (1 : Int32)) (by decide +kernel) ?_
  refine nm_r (e' := (1 : Int32)) (by decide +kernel) ?_
  refine br_f (by decide +kernel) ?_
  refine ⟨(by decide +kernel), ?_⟩
  refine nm_r (e' := (1 : Int32)) (by decide +kernel) ?_
  refine ⟨rx_in6_1, ?_⟩
  refine br_f (by decide +kernel) ?_
  refine nm_r (e' := (1 : Int32)) (by decide +kernel) ?_
  refine nm_r (e' := (2 : Int32)) (by decide +kernel) ?_
  refine br_t (by decide +kernel) ?_
  refine ⟨7, ?_⟩
  refine br_f (by decide +kernel) ?_
  refine ⟨(by decide +kernel), ?_⟩
  refine nm_r (e' := (0 : Int32)) (by decide +kernel) ?_
  refine ⟨rx_in6_0, ?_⟩
  refine br_f (by decide +kernel) ?_
  refine ⟨rx_in6_0, ?_⟩
  refine br_t (by decide +kernel) ?_
  refine ⟨rx_in6_0, ?_⟩
  refine br_f (by decide +kernel) ?_
  refine br_t (by decide +kernel) ?_
  refine ⟨rx_in6_0, ?_⟩
  refine br_f (by decide +kernel) ?_
  refine nm_r (e' := (0 : Int32)) (by decide +kernel) ?_
  refine nm_r (e' := (1 : Int32)) (by decide +kernel) ?_
  refine br_f (by decide +kernel) ?_
  refine ⟨(by decide +kernel), ?_⟩
  refine nm_r (e' := (1 : Int32)) (by decide +kernel) ?_
  refine ⟨rx_in6_1, ?_⟩
  refine br_f (by decide +kernel) ?_
  refine ⟨rx_in6_1, ?_⟩
  refine br_f (by decide +kernel) ?_
  refine ⟨rx_in6_1, ?_⟩
  refine br_t (by decide +kernel) ?_
  refine ⟨rx_in6_1, ?_⟩
  refine br_t (by decide +kernel) ?_
  refine br_t (by decide +kernel) ?_
  refine ⟨rx_in6_1, ?_⟩
  refine br_t (by decide +kernel) ?_
  refine nm_r (e' := (1 : Int32)) (by decide +kernel) ?_
  refine nm_r (e' := (2 : Int32)) (by decide +kernel) ?_
  refine br_t (by decide +kernel) ?_
  exact hp
theorem rx_beg_20 {post : St2 → Prop} {f0_size f0_at f0_state f0_count f0_guessBits f0_fetchAt f0_fetching : Int32} {a1 a2 a3 a4 a5 a7 a9 a10 a11 a12 a13 a14 a17 a18 a19 : Nat → Int32} (hp : post (f0_size, f0_at, f0_state, f0_count, f0_guessBits, f0_fetchAt, f0_fetching, 0, 3, a1, a2, a3, a4, a5, (rx_6 3 5 4 0 0 0), a7, (rx_6 1 0 0 0 0 0), a9, a10, a11, a12, a13, a14, (rx_6 (-1) 0 (-1) 0 0 0), (rx_6 (-1) (-1) (-1) 0 0 0), a17, a18, a19)) :
    wpX_begin post (f0_size, f0_at, f0_state, f0_count, f0_guessBits, f0_fetchAt, f0_fetching, 0, 3, a1, a2, a3, a4, a5, (rx_6 3 5 4 0 0 0), a7, (rx_6 1 0 0 0 0 0), a9, a10, a11, a12, a13, a14, (rx_6 (-1) 0 (-1) 0 0 0), (rx_6 (-1) (-1) (-1) 0 0 0), a17, a18, a19) := by
  refine ⟨7, ?_⟩
  refine br_f (by decide +kernel) ?_
  refine ⟨(by decide +kernel), ?_⟩
  refine nm_r (e' := (0 : Int32)) (by decide +kernel) ?_
  refine ⟨rx_in6_0, ?_⟩
  refine br_t (by decide +kernel) ?_
  refine ⟨rx_in6_0, ?_⟩
  refine br_f (by decide +kernel) ?_
  refine ⟨rx_in6_0, ?_⟩
  refine br_t (by decide +kernel) ?_
  refine nm_r (e' := (1 : Int32)) (by decide +kernel) ?_
  refine nm_r (e' := (1 : Int32)) (by decide +kernel) ?_
  refine br_f (by decide +kernel) ?_
  refine ⟨(by decide +kernel), ?_⟩
  refine nm_r (e' := (1 : Int32)) (by decide +kernel) ?_
  refine ⟨rx_in6_1, ?_⟩
  refine br_f (by decide +kernel) ?_
  refine nm_r (e' := (1 : Int32)) (by decide +kernel) ?_
  refine nm_r (e' := (2 : Int32)) (by decide +kernel) ?_
  refine br_f (by decide +kernel) ?_
  refine ⟨(by decide +kernel), ?_⟩
  refine nm_r (e' := (2 : Int32)) (by decide +kernel) ?_
  refine ⟨rx_in6_2, ?_⟩
  refine br_f (by decide +kernel) ?_
  refine nm_r (e' := (1 : Int32)) (by decide +kernel) ?_
  refine nm_r (e' := (3 : Int32)) (by decide +kernel) ?_
  refine br_t (by decide +kernel) ?_
  refine ⟨7, ?_⟩
  refine br_f (by decide +kernel) ?_
  refine ⟨(by decide +kernel), ?_⟩
  refine nm_r (e' := (0 : Int32)) (by decide +kernel) ?_
  refine ⟨rx_in6_0, ?_⟩
  refine br_f (by decide +kernel) ?_
  refine ⟨rx_in6_0, ?_⟩
  refine br_t (by decide +kernel) ?_
  refine ⟨rx_in6_0, ?_⟩
  refine br_f (by decide +kernel) ?_
  refine br_t (by decide +kernel) ?_
  refine ⟨rx_in6_0, ?_⟩
  refine br_f (by decide +kernel) ?_
  refine nm_r (e' := (0 : Int32)) (by decide +kernel) ?_
  refine nm_r (e' := (1 : Int32)) (by decide +kernel) ?_
  refine br_f (by decide +kernel) ?_
  refine ⟨(by decide +kernel), ?_⟩
  refine nm_r (e' := (1 : Int32)) (by decide +kernel) ?_
  refine ⟨rx_in6_1, ?_⟩
  refine br_f (by decide +kernel) ?_
  refine ⟨rx_in6_1, ?_⟩
  refine br_f (by decide +kernel) ?_
  refine ⟨rx_in6_1, ?_⟩
  refine br_t (by decide +kernel) ?_
  refine ⟨rx_in6_1, ?_⟩
  refine br_t (by decide +kernel) ?_
  refine br_t (by decide +kernel) ?_
  refine ⟨rx_in6_1, ?_⟩
  refine br_t (by decide +kernel) ?_
  refine nm_r (e' := (1 : Int32)) (by decide +kernel) ?_
  refine nm_r (e' := (2 : Int32)) (by decide +kernel) ?_
  refine br_f (by decide +kernel) ?_
  refine ⟨(by decide +kernel), ?_⟩
  refine nm_r (e' := (2 : Int32)) (by decide +kernel) ?_
  refine ⟨rx_in6_2, ?_⟩
  refine br_f (by decide +kernel) ?_
  refine ⟨rx_in6_2, ?_⟩
  refine br_f (by decide +kernel) ?_
  refine ⟨rx_in6_2, ?_⟩
  refine br_t (by decide +kernel) ?_
  refine ⟨rx_in6_2, ?_⟩
  refine br_f (by decide +kernel) ?_
  refine ⟨rx_in6_2, ?_⟩
  refine br_f (by decide +kernel) ?_
  refine br_f (by decide +kernel) ?_
  refine br_t (by decide +kernel) ?_
  refine ⟨rx_in6_2, ?_⟩
  refine br_t (by decide +kernel) ?_
  refine br_f (by decide +kernel) ?_
  refine ⟨rx_in6_2, ?_⟩
  refine br_f (by decide +kernel) ?_
  refine nm_r (e' := (1 : Int32)) (by decide +kernel) ?_
  refine nm_r (e' := (3 : Int32)) (by decide +kernel) ?_
  refine br_t (by decide +kernel) ?_
  exact hp
theorem rx_beg_21 {post : St2 → Prop} {f0_size f0_at f0_state f0_count f0_guessBits f0_fetchAt f0_fetching : Int32} {a1 a2 a3 a4 a5 a7 a10 a11 a12 a13 a14 a17 a18 a19 : Nat → Int32} (hp : post (f0_size, f0_at, f0_state, f0_count, f0_guessBits, f0_fetchAt, f0_fetching, 0, 4, a1, a2, a3, a4, a5, (rx_6 3 5 4 9 0 0), a7, (rx_6 1 0 0 1 0 0), (rx_6 2 0 0 1 0 0), a10, a11, a12, a13, a14, (rx_6 (-1) 0 (-1) (-1) 0 0), (rx_6 (-1) (-1) (-1) (-1) 0 0), a17, a18, a19)) :
    wpX_begin post (f0_size, f0_at, f0_state, f0_count, f0_guessBits, f0_fetchAt, f0_fetching, 0, 4, a1, a2, a3, a4, a5, (rx_6 3 5 4 9 0 0), a7, (rx_6 1 0 0 0 0 0), (rx_6 2 0 0 0 0 0), a10, a11, a12, a13, a14, (rx_6 (-1) 0 (-1) (-1) 0 0), (rx_6 (-1) (-1) (-1) (-1) 0 0), a17, a18, a19) := by
  refine ⟨7, ?_⟩
  refine br_f (by decide +kernel) ?_
  refine ⟨(by decide +kernel), ?_⟩
  refine nm_r (e' := (0 : Int32)) (by decide +kernel) ?_
  refine ⟨rx_in6_0, ?_⟩
  refine br_t (by decide +kernel) ?_
  refine ⟨rx_in6_0, ?_⟩
  refine br_f (by decide +kernel) ?_
  refine ⟨rx_in6_0, ?_⟩
  refine br_t (by decide +kernel) ?_
  refine nm_r (e' := (1 : Int32)) (by decide +kernel) ?_
  refine nm_r (e' := (1 : Int32)) (by decide +kernel) ?_
  refine br_f (by decide +kernel) ?_
  refine ⟨(by decide +kernel), ?_⟩
  refine nm_r (e' := (1 : Int32)) (by decide +kernel) ?_
  refine ⟨rx_in6_1, ?_⟩
  refine br_f (by decide +kernel) ?_
  refine nm_r (e' := (1 : Int32)) (by decide +kernel) ?_
  refine nm_r (e' := (2 : Int32)) (by decide +kernel) ?_
  refine br_f (by decide +kernel) ?_
  refine ⟨(by decide +kernel), ?_⟩
  refine nm_r (e' := (2 : Int32)) (by decide +kernel) ?_
  refine ⟨rx_in6_2, ?_⟩
  refine br_f (by decide +kernel) ?_
  refine nm_r (e' := (1 : Int32)) (by decide +kernel) ?_
  refine nm_r (e' := (3 : Int32)) (by decide +kernel) ?_
  refine br_f (by decide +kernel) ?_
  refine ⟨(by decide +kernel), ?_⟩
  refine nm_r (e' := (3 : Int32)) (by decide +kernel) ?_
  refine ⟨rx_in6_3, ?_⟩
  refine br_f (by decide +kernel) ?_
  refine nm_r (e' := (1 : Int32)) (by decide +kernel) ?_
  refine nm_r (e' := (4 : Int32)) (by decide +kernel) ?_
  refine br_t (by decide +kernel) ?_
  refine ⟨7, ?_⟩
  refine br_f (by decide +kernel) ?_
  refine ⟨(by decide +kernel), ?_⟩
  refine nm_r (e' := (0 : Int32)) (by decide +kernel) ?_
  refine ⟨rx_in6_0, ?_⟩
  refine br_f (by decide +kernel) ?_
  refine ⟨rx_in6_0, ?_⟩
  refine br_t (by decide +kernel) ?_
  refine ⟨rx_in6_0, ?_⟩
  refine br_f (by decide +kernel) ?_
  refine br_t (by decide +kernel) ?_
  refine ⟨rx_in6_0, ?_⟩
  refine br_f (by decide +kernel) ?_
  refine nm_r (e' := (0 : Int32)) (by decide +kernel) ?_
  refine nm_r (e' := (1 : Int32)) (by decide +kernel) ?_
  refine br_f (by decide +kernel) ?_
  refine ⟨(by decide +kernel), ?_⟩
  refine nm_r (e' := (1 : Int32)) (by decide +kernel) ?_
  refine ⟨rx_in6_1, ?_⟩
  refine br_f (by decide +kernel) ?_
  refine ⟨rx_in6_1, ?_⟩
  refine br_f (by decide +kernel) ?_
  refine ⟨rx_in6_1, ?_⟩
  refine br_t (by decide +kernel) ?_
  refine ⟨rx_in6_1, ?_⟩
  refine br_t (by decide +kernel) ?_
  refine br_t (by decide +kernel) ?_
  refine ⟨rx_in6_1, ?_⟩
  refine br_t (by decide +kernel) ?_
  refine nm_r (e' := (1 : Int32)) (by decide +kernel) ?_
  refine nm_r (e' := (2 : Int32)) (by decide +kernel) ?_
  refine br_f (by decide +kernel) ?_
  refine ⟨(by decide +kernel), ?_⟩
  refine nm_r (e' := (2 : Int32)) (by decide +kernel) ?_
  refine ⟨rx_in6_2, ?_⟩
  refine br_f (by decide +kernel) ?_
  refine ⟨rx_in6_2, ?_⟩
  refine br_f (by decide +kernel) ?_
  refine ⟨rx_in6_2, ?_⟩
  refine br_t (by decide +kernel) ?_
  refine ⟨rx_in6_2, ?_⟩
  refine br_f (by decide +kernel) ?_
  refine ⟨rx_in6_2, ?_⟩
  refine br_f (by decide +kernel) ?_
  refine br_f (by decide +kernel) ?_
  refine br_t (by decide +kernel) ?_
  refine ⟨rx_in6_2, ?_⟩
  refine br_t (by decide +kernel) ?_
  refine br_f (by decide +kernel) ?_
  refine ⟨rx_in6_2, ?_⟩
  refine br_f (by decide +kernel) ?_
  refine nm_r (e' := (1 : Int32)) (by decide +kernel) ?_
  refine nm_r (e' := (3 : Int32)) (by decide +kernel) ?_
  refine br_f (by decide +kernel) ?_
  refine ⟨(by decide +kernel), ?_⟩
  refine nm_r (e' := (3 : Int32)) (by decide +kernel) ?_
  refine ⟨rx_in6_3, ?_⟩
  refine br_f (by decide +kernel) ?_
  refine ⟨rx_in6_3, ?_⟩
  refine br_f (by decide +kernel) ?_
  refine ⟨rx_in6_3, ?_⟩
  refine br_t (by decide +kernel) ?_
  refine ⟨rx_in6_3, ?_⟩
  refine br_f (by decide +kernel) ?_
  refine ⟨rx_in6_3, ?_⟩
  refine br_f (by decide +kernel) ?_
  refine br_f (by decide +kernel) ?_
  refine br_t (by decide +kernel) ?_
  refine ⟨rx_in6_3, ?_⟩
  refine br_f (by decide +kernel) ?_
  refine ⟨rx_in6_3, ?_⟩
  refine nm_r (e' := (rx_6 1 0 0 1 0 0)) (rx_u3 rfl rfl) ?_
  refine ⟨rx_in6_3, ?_⟩
  refine br_f (by decide +kernel) ?_
  refine br_f (by decide +kernel) ?_
  refine br_f (by decide +kernel) ?_
  refine ⟨rx_in6_3, ?_⟩
  refine nm_r (e' := (rx_6 2 0 0 1 0 0)) (rx_u3 rfl (by decide +kernel)) ?_
  refine nm_r (e' := (1 : Int32)) (by decide +kernel) ?_
  refine ⟨rx_in6_3, ?_⟩
  refine br_f (by decide +kernel) ?_
  refine nm_r (e' := (1 : Int32)) (by decide +kernel) ?_
  refine nm_r (e' := (4 : Int32)) (by decide +kernel) ?_
  refine br_t (by decide +kernel) ?_
  exact hp
theorem rx_beg_22 {post : St2 → Prop} {f0_size f0_at f0_state f0_count f0_guessBits f0_fetchAt f0_fetching : Int32} {a1 a2 a3 a4 a5 a7 a9 a10 a11 a12 a13 a14 a17 a18 a19 : Nat → Int32} (hp : post (f0_size, f0_at, f0_state, f0_count, f0_guessBits, f0_fetchAt, f0_fetching, 0, 4, a1, a2, a3, a4, a5, (rx_6 3 5 4 9 0 0), a7, (rx_6 1 0 0 2 0 0), a9, a10, a11, a12, a13, a14, (rx_6 (-1) 0 (-1) (-1) 0 0), (rx_6 (-1) (-1) (-1) (-1) 0 0), a17, a18, a19)) :
    wpX_begin post (f0_size, f0_at, f0_state, f0_count, f0_guessBits, f0_fetchAt, f0_fetching, 0, 4, a1, a2, a3, a4, a5, (rx_6 3 5 4 9 0 0), a7, (rx_6 1 0 0 2 0 0), a9, a10, a11, a12, a13, a14, (rx_6 (-1) 0 (-1) (-1) 0 0), (rx_6 (-1) (-1) (-1) (-1) 0 0), a17, a18, a19) := by
  refine ⟨7, ?_⟩
  refine br_f (by decide +kernel) ?_
  refine ⟨(by decide +kernel), ?_⟩
  refine nm_r (e' := (0 : Int32)) (by decide +kernel) ?_
  refine ⟨rx_in6_0, ?_⟩
  refine br_t (by decide +kernel) ?_
  refine ⟨rx_in6_0, ?_⟩
  refine br_f (by decide +kernel) ?_
  refine ⟨rx_in6_0, ?_⟩
  refine br_t (by decide +kernel) ?_
  refine nm_r (e' := (1 : Int32)) (by decide +kernel) ?_
  refine nm_r (e' := (1 : Int32)) (by decide +kernel) ?_
  refine br_f (by decide +kernel) ?_
  refine ⟨(by decide +kernel), ?_⟩
  refine nm_r (e' := (1 : Int32)) (by decide +kernel) ?_
  refine ⟨rx_in6_1, ?_⟩
  refine br_f (by decide +kernel) ?_
  refine nm_r (e' := (1 : Int32)) (by decide +kernel) ?_
  refine nm_r (e' := (2 : Int32)) (by decide +kernel) ?_
  refine br_f (by decide +kernel) ?_
  refine ⟨(by decide +kernel), ?_⟩
  refine nm_r (e' := (2 : Int32)) (by decide +kernel) ?_
  refine ⟨rx_in6_2, ?_⟩
  refine br_f (by decide +kernel) ?_
  refine nm_r (e' := (1 : Int32)) (by decide +kernel) ?_
  refine nm_r (e' := (3 : Int32)) (by decide +kernel) ?_
  refine br_f (by decide +kernel) ?_
  refine ⟨(by decide +kernel), ?_⟩
  refine nm_r (e' := (3 : Int32)) (by decide +kernel) ?_
  refine ⟨rx_in6_3, ?_⟩
  refine br_f (by decide +kernel) ?_
  refine nm_r (e' := (1 : Int32)) (by decide +kernel) ?_
  refine nm_r (e' := (4 : Int32)) (by decide +kernel) ?_
  refine br_t (by decide +kernel) ?_
  refine ⟨7, ?_⟩
  refine br_f (by decide +kernel) ?_
  refine ⟨(by decide +kernel), ?_⟩
  refine nm_r (e' := (0 : Int32)) (by decide +kernel) ?_
  refine ⟨rx_in6_0, ?_⟩
  refine br_f (by decide +kernel) ?_
  refine ⟨rx_in6_0, ?_⟩
  refine br_t (by decide +kernel) ?_
  refine ⟨rx_in6_0, ?_⟩
  refine br_f (by decide +kernel) ?_
  refine br_t (by decide +kernel) ?_
  refine ⟨rx_in6_0, ?_⟩
  refine br_f (by decide +kernel) ?_
  refine nm_r (e' := (0 : Int32)) (by decide +kernel) ?_
  refine nm_r (e' := (1 : Int32)) (by decide +kernel) ?_
  refine br_f (by decide +kernel) ?_
  refine ⟨(by decide +kernel), ?_⟩
  refine nm_r (e' := (1 : Int32)) (by decide +kernel) ?_
  refine ⟨rx_in6_1, ?_⟩
  refine br_f (by decide +kernel) ?_
  refine ⟨rx_in6_1, ?_⟩
  refine br_f (by decide +kernel) ?_
  refine ⟨rx_in6_1, ?_⟩
  refine br_t (by decide +kernel) ?_
  refine ⟨rx_in6_1, ?_⟩
  refine br_t (by decide +kernel) ?_
  refine br_t (by decide +kernel) ?_
  refine ⟨rx_in6_1, ?_⟩
  refine br_t (by decide +kernel) ?_
  refine nm_r (e' := (1 : Int32)) (by decide +kernel) ?_
  refine nm_r (e' := (2 : Int32)) (by decide +kernel) ?_
  refine br_f (by decide +kernel) ?_
  refine ⟨(by decide +kernel), ?_⟩
  refine nm_r (e' := (2 : Int32)) (by decide +kernel) ?_
  refine ⟨rx_in6_2, ?_⟩
  refine br_f (by decide +kernel) ?_
  refine ⟨rx_in6_2, ?_⟩
  refine br_f (by decide +kernel) ?_
  refine ⟨rx_in6_2, ?_⟩
  refine br_t (by decide +kernel) ?_
  refine ⟨rx_in6_2, ?_⟩
  refine br_f (by decide +kernel) ?_
  refine ⟨rx_in6_2, ?_⟩
  refine br_f (by decide +kernel) ?_
  refine br_f (by decide +kernel) ?_
  refine br_t (by decide +kernel) ?_
  refine ⟨rx_in6_2, ?_⟩
  refine br_t (by decide +kernel) ?_
  refine br_f (by decide +kernel) ?_
  refine ⟨rx_in6_2, ?_⟩
  refine br_f (by decide +kernel) ?_
  refine nm_r (e' := (1 : Int32)) (by decide +kernel) ?_
  refine nm_r (e' := (3 : Int32)) (by decide +kernel) ?_
  refine br_f (by decide +kernel) ?_
  refine ⟨(by decide +kernel), ?_⟩
  refine nm_r (e' := (3 : Int32)) (by decide +kernel) ?_
  refine ⟨rx_in6_3, ?_⟩
  refine br_f (by decide +kernel) ?_
  refine ⟨rx_in6_3, ?_⟩
  refine br_f (by decide +kernel) ?_
  refine ⟨rx_in6_3, ?_⟩
  refine br_f (by decide +kernel) ?_
  refine br_t (by decide +kernel) ?_
  refine ⟨rx_in6_3, ?_⟩
  refine br_f (by decide +kernel) ?_
  refine nm_r (e' := (1 : Int32)) (by decide +kernel) ?_
  refine nm_r (e' := (4 : Int32)) (by decide +kernel) ?_
  refine br_t (by decide +kernel) ?_
  exact hp
theorem rx_beg_23 {post : St2 → Prop} {f0_size f0_at f0_state f0_count f0_guessBits f0_fetchAt f0_fetching : Int32} {a1 a2 a3 a4 a5 a7 a10 a11 a12 a13 a14 a17 a18 a19 : Nat → Int32} (hp : post (f0_size, f0_at, f0_state, f0_count, f0_guessBits, f0_fetchAt, f0_fetching, 0, 4, a1, a2, a3, a4, a5, (rx_6 3 5 4 9 0 0), a7, (rx_6 2 1 0 2 0 0), (rx_6 0 1 0 0 0 0), a10, a11, a12, a13, a14, (rx_6 (-1) (-1) (-1) (-1) 0 0), (rx_6 (-1) (-1) (-1) (-1) 0 0), a17, a18, a19)) :
    wpX_begin post (f0_size, f0_at, f0_state, f0_count, f0_guessBits, f0_fetchAt, f0_fetching, 0, 4, a1, a2, a3, a4, a5, (rx_6 3 5 4 9 0 0), a7, (rx_6 2 0 0 2 0 0), (rx_6 0 0 0 0 0 0), a10, a11, a12, a13, a14, (rx_6 (-1) (-1) (-1) (-1) 0 0), (rx_6 (-1) (-1) (-1) (-1) 0 0), a17, a18, a19) := by
  refine ⟨7, ?_⟩
  refine br_f (by decide +kernel) ?_
  refine ⟨(by decide +kernel), ?_⟩
  refine nm_r (e' := (0 : Int32)) (by decide +kernel) ?_
  refine ⟨rx_in6_0, ?_⟩
  refine br_f (by decide +kernel) ?_
  refine nm_r (e' := (0 : Int32)) (by decide +kernel) ?_
  refine nm_r (e' := (1 : Int32)) (by decide +kernel) ?_
  refine br_f (by decide +kernel) ?_
  refine ⟨(by decide +kernel), ?_⟩
  refine nm_r (e' := (1 : Int32)) (by decide +kernel) ?_
  refine ⟨rx_in6_1, ?_⟩
  refine br_f (by decide +kernel) ?_
  refine nm_r (e' := (0 : Int32)) (by decide +kernel) ?_
  refine nm_r (e' := (2 : Int32)) (by decide +kernel) ?_
  refine br_f (by decide +kernel) ?_
  refine ⟨(by decide +kernel), ?_⟩
  refine nm_r (e' := (2 : Int32)) (by decide +kernel) ?_
  refine ⟨rx_in6_2, ?_⟩
  refine br_f (by decide +kernel) ?_
  refine nm_r (e' := (0 : Int32)) (by decide +kernel) ?_
  refine nm_r (e' := (3 : Int32)) (by decide +kernel) ?_
  refine br_f (by decide +kernel) ?_
  refine ⟨(by decide +kernel), ?_⟩
  refine nm_r (e' := (3 : Int32)) (by decide +kernel) ?_
  refine ⟨rx_in6_3, ?_⟩
  refine br_f (by decide +kernel) ?_
  refine nm_r (e' := (0 : Int32)) (by decide +kernel) ?_
  refine nm_r (e' := (4 : Int32)) (by decide +kernel) ?_
  refine br_t (by decide +kernel) ?_
  refine ⟨7, ?_⟩
  refine br_f (by decide +kernel) ?_
  refine ⟨(by decide +kernel), ?_⟩
  refine nm_r (e' := (0 : Int32)) (by decide +kernel) ?_
  refine ⟨rx_in6_0, ?_⟩
  refine br_f (by decide +kernel) ?_
  refine ⟨rx_in6_0, ?_⟩
  refine br_t (by decide +kernel) ?_
  refine ⟨rx_in6_0, ?_⟩
  refine br_f (by decide +kernel) ?_
  refine br_t (by decide +kernel) ?_
  refine ⟨rx_in6_0, ?_⟩
  refine br_f (by decide +kernel) ?_
  refine nm_r (e' := (0 : Int32)) (by decide +kernel) ?_
  refine nm_r (e' := (1 : Int32)) (by decide +kernel) ?_
  refine br_f (by decide +kernel) ?_
  refine ⟨(by decide +kernel), ?_⟩
  refine nm_r (e' := (1 : Int32)) (by decide +kernel) ?_
  refine ⟨rx_in6_1, ?_⟩
  refine br_f (by decide +kernel) ?_
  refine ⟨rx_in6_1, ?_⟩
  refine br_f (by decide +kernel) ?_
  refine ⟨rx_in6_1, ?_⟩
  refine br_t (by decide +kernel) ?_
  refine ⟨rx_in6_1, ?_⟩
  refine br_f (by decide +kernel) ?_
  refine ⟨rx_in6_1, ?_⟩
  refine br_f (by decide +kernel) ?_
  refine br_f (by decide +kernel) ?_
  refine br_t (by decide +kernel) ?_
  refine ⟨rx_in6_1, ?_⟩
  refine br_f (by decide +kernel) ?_
  refine ⟨rx_in6_1, ?_⟩
  refine nm_r (e' := (rx_6 2 1 0 2 0 0)) (rx_u1 rfl rfl) ?_
  refine ⟨rx_in6_1, ?_⟩
  refine br_f (by decide +kernel) ?_
  refine br_f (by decide +kernel) ?_
  refine br_f (by decide +kernel) ?_
  refine ⟨rx_in6_1, ?_⟩
  refine nm_r (e' := (rx_6 0 1 0 0 0 0)) (rx_u1 rfl (by decide +kernel)) ?_
  refine nm_r (e' := (0 : Int32)) (by decide +kernel) ?_
  refine ⟨rx_in6_1, ?_⟩
  refine br_t (by decide +kernel) ?_
  refine nm_r (e' := (1 : Int32)) (by decide +kernel) ?_
  refine nm_r (e' := (2 : Int32)) (by decide +kernel) ?_
  refine br_f (by decide +kernel) ?_
  refine ⟨(by decide +kernel), ?_⟩
  refine nm_r (e' := (2 : Int32)) (by decide +kernel) ?_
  refine ⟨rx_in6_2, ?_⟩
  refine br_f (by decide +kernel) ?_
  refine ⟨rx_in6_2, ?_⟩
  refine br_f (by decide +kernel) ?_
  refine ⟨rx_in6_2, ?_⟩
  refine br_t (by decide +kernel) ?_
  refine ⟨rx_in6_2, ?_⟩
  refine br_f (by decide +kernel) ?_
  refine ⟨rx_in6_2, ?_⟩
  refine br_f (by decide +kernel) ?_
  refine br_f (by decide +kernel) ?_
  refine br_t (by decide +kernel) ?_
  refine ⟨rx_in6_2, ?_⟩
  refine br_t (by decide +kernel) ?_
  refine br_f (by decide +kernel) ?_
  refine ⟨rx_in6_2, ?_⟩
  refine br_f (by decide +kernel) ?_
  refine nm_r (e' := (1 : Int32)) (by decide +kernel) ?_
  refine nm_r (e' := (3 : Int32)) (by decide +kernel) ?_
  refine br_f (by decide +kernel) ?_
  refine ⟨(by decide +kernel), ?_⟩
  refine nm_r (e' := (3 : Int32)) (by decide +kernel) ?_
  refine ⟨rx_in6_3, ?_⟩
  refine br_f (by decide +kernel) ?_
  refine ⟨rx_in6_3, ?_⟩
  refine br_f (by decide +kernel) ?_
  refine ⟨rx_in6_3, ?_⟩
  refine br_f (by decide +kernel) ?_
  refine br_t (by decide +kernel) ?_
  refine ⟨rx_in6_3, ?_⟩
  refine br_f (by decide +kernel) ?_
  refine nm_r (e' := (1 : Int32)) (by decide +kernel) ?_
  refine nm_r (e' := (4 : Int32)) (by decide +kernel) ?_
  refine br_t (by decide +kernel) ?_
  exact hp
theorem rx_beg_24 {post : St2 → Prop} {f0_size f0_at f0_state f0_count f0_guessBits f0_fetchAt f0_fetching : Int32} {a1 a2 a3 a4 a5 a7 a9 a10 a11 a12 a13 a14 a17 a18 a19 : Nat → Int32} (hp : post (f0_size, f0_at, f0_state, f0_count, f0_guessBits, f0_fetchAt, f0_fetching, 1, 3, a1, a2, a3, a4, a5, (rx_6 3 5 4 9 0 0), a7, (rx_6 2 2 0 2 0 0), a9, a10, a11, a12, a13, a14, (rx_6 (-1) (-1) (-1) (-1) 0 0), (rx_6 (-1) (-1) (-1) (-1) 0 0), a17, a18, a19)) :
    wpX_begin post (f0_size, f0_at, f0_state, f0_count, f0_guessBits, f0_fetchAt, f0_fetching, 1, 3, a1, a2, a3, a4, a5, (rx_6 3 5 4 9 0 0), a7, (rx_6 2 2 0 2 0 0), a9, a10, a11, a12, a13, a14, (rx_6 (-1) (-1) (-1) (-1) 0 0), (rx_6 (-1) (-1) (-1) (-1) 0 0), a17, a18, a19) := by
  refine ⟨7, ?_⟩
  refine br_f (by decide +kernel) ?_
  refine ⟨(by decide +kernel), ?_⟩
  refine nm_r (e' := (1 : Int32)) (by decide +kernel) ?_
  refine ⟨rx_in6_1, ?_⟩
  refine br_f (by decide +kernel) ?_
  refine nm_r (e' := (0 : Int32)) (by decide +kernel) ?_
  refine nm_r (e' := (1 : Int32)) (by decide +kernel) ?_
  refine br_f (by decide +kernel) ?_
  refine ⟨(by decide +kernel), ?_⟩
  refine nm_r (e' := (2 : Int32)) (by decide +kernel) ?_
  refine ⟨rx_in6_2, ?_⟩
  refine br_f (by decide +kernel) ?_
  refine nm_r (e' := (0 : Int32)) (by decide +kernel) ?_
  refine nm_r (e' := (2 : Int32)) (by decide +kernel) ?_
  refine br_f (by decide +kernel) ?_
  refine ⟨(by decide +kernel), ?_⟩
  refine nm_r (e' := (3 : Int32)) (by decide +kernel) ?_
  refine ⟨rx_in6_3, ?_⟩
  refine br_f (by decide +kernel) ?_
  refine nm_r (e' := (0 : Int32)) (by decide +kernel) ?_
  refine nm_r (e' := (3 : Int32)) (by decide +kernel) ?_
  refine br_t (by decide +kernel) ?_
  refine ⟨7, ?_⟩
  refine br_f (by decide +kernel) ?_
  refine ⟨(by decide +kernel), ?_⟩
  refine nm_r (e' := (1 : Int32)) (by decide +kernel) ?_
  refine ⟨rx_in6_1, ?_⟩
  refine br_f (by decide +kernel) ?_
  refine ⟨rx_in6_1, ?_⟩
  refine br_f (by decide +kernel) ?_
  refine ⟨rx_in6_1, ?_⟩
  refine br_f (by decide +kernel) ?_
  refine br_t (by decide +kernel) ?_
  refine ⟨rx_in6_1, ?_⟩
  refine br_t (by decide +kernel) ?_
  refine nm_r (e' := (1 : Int32)) (by decide +kernel) ?_
  refine nm_r (e' := (1 : Int32)) (by decide +kernel) ?_
  refine br_f (by decide +kernel) ?_
  refine ⟨(by decide +kernel), ?_⟩
  refine nm_r (e' := (2 : Int32)) (by decide +kernel) ?_
  refine ⟨rx_in6_2, ?_⟩
  refine br_f (by decide +kernel) ?_
  refine ⟨rx_in6_2, ?_⟩
  refine br_f (by decide +kernel) ?_
  refine ⟨rx_in6_2, ?_⟩
  refine br_t (by decide +kernel) ?_
  refine ⟨rx_in6_2, ?_⟩
  refine br_f (by decide +kernel) ?_
  refine ⟨rx_in6_2, ?_⟩
  refine br_f (by decide +kernel) ?_
  refine br_f (by decide +kernel) ?_
  refine br_t (by decide +kernel) ?_
  refine ⟨rx_in6_2, ?_⟩
  refine br_t (by decide +kernel) ?_
  refine br_f (by decide +kernel) ?_
  refine ⟨rx_in6_2, ?_⟩
  refine br_f (by decide +kernel) ?_
  refine nm_r (e' := (1 : Int32)) (by decide +kernel) ?_
  refine nm_r (e' := (2 : Int32)) (by decide +kernel) ?_
  refine br_f (by decide +kernel) ?_
  refine ⟨(by decide +kernel), ?_⟩
  refine nm_r (e' := (3 : Int32)) (by decide +kernel) ?_
  refine ⟨rx_in6_3, ?_⟩
  refine br_f (by decide +kernel) ?_
  refine ⟨rx_in6_3, ?_⟩
  refine br_f (by decide +kernel) ?_
  refine ⟨rx_in6_3, ?_⟩
  refine br_f (by decide +kernel) ?_
  refine br_t (by decide +kernel) ?_
  refine ⟨rx_in6_3, ?_⟩
  refine br_f (by decide +kernel) ?_
  refine nm_r (e' := (1 : Int32)) (by decide +kernel) ?_
  refine nm_r (e' := (3 : Int32)) (by decide +kernel) ?_
  refine br_t (by decide +kernel) ?_
  exact hp
theorem rx_beg_25 {post : St2 → Prop} {f0_size f0_at f0_state f0_count f0_guessBits f0_fetchAt f0_fetching : Int32} {a1 a2 a3 a4 a5 a7 a10 a11 a12 a13 a14 a17 a18 a19 : Nat → Int32} (hp : post (f0_size, f0_at, f0_state, f0_count, f0_guessBits, f0_fetchAt, f0_fetching, 2, 2, a1, a2, a3, a4, a5, (rx_6 3 5 4 9 0 0), a7, (rx_6 2 2 1 2 0 0), (rx_6 0 0 2 0 0 0), a10, a11, a12, a13, a14, (rx_6 (-1) (-1) (-1) (-1) 0 0), (rx_6 (-1) (-1) (-1) (-1) 0 0), a17, a18, a19)) :
    wpX_begin post (f0_size, f0_at, f0_state, f0_count, f0_guessBits, f0_fetchAt, f0_fetching, 2, 2, a1, a2, a3, a4, a5, (rx_6 3 5 4 9 0 0), a7, (rx_6 2 2 0 2 0 0), (rx_6 0 0 0 0 0 0), a10, a11, a12, a13, a14, (rx_6 (-1) (-1) (-1) (-1) 0 0), (rx_6 (-1) (-1) (-1) (-1) 0 0), a17, a18, a19) := by
  refine ⟨7, ?_⟩
  refine br_f (by decide +kernel) ?_
  refine ⟨(by decide +kernel), ?_⟩
  refine nm_r (e' := (2 : Int32)) (by decide +kernel) ?_
  refine ⟨rx_in6_2, ?_⟩
  refine br_f (by decide +kernel) ?_
  refine nm_r (e' := (0 : Int32)) (by decide +kernel) ?_
  refine nm_r (e' := (1 : Int32)) (by decide +kernel) ?_
  refine br_f (by decide +kernel) ?_
  refine ⟨(by decide +kernel), ?_⟩
  refine nm_r (e' := (3 : Int32)) (by decide +kernel) ?_
  refine ⟨rx_in6_3, ?_⟩
  refine br_f (by decide +kernel) ?_
  refine nm_r (e' := (0 : Int32)) (by decide +kernel) ?_
  refine nm_r (e' := (2 : Int32)) (by decide +kernel) ?_
  refine br_t (by decide +kernel) ?_
  refine ⟨7, ?_⟩
  refine br_f (by decide +kernel) ?_
  refine ⟨(by decide +kernel), ?_⟩
  refine nm_r (e' := (2 : Int32)) (by decide +kernel) ?_
  refine ⟨rx_in6_2, ?_⟩
  refine br_f (by decide +kernel) ?_
  refine ⟨rx_in6_2, ?_⟩
  refine br_f (by decide +kernel) ?_
  refine ⟨rx_in6_2, ?_⟩
  refine br_t (by decide +kernel) ?_
  refine ⟨rx_in6_2, ?_⟩
  refine br_f (by decide +kernel) ?_
  refine ⟨rx_in6_2, ?_⟩
  refine br_f (by decide +kernel) ?_
  refine br_f (by decide +kernel) ?_
  refine br_t (by decide +kernel) ?_
  refine ⟨rx_in6_2, ?_⟩
  refine br_t (by decide +kernel) ?_
  refine br_t (by decide +kernel) ?_
  refine ⟨rx_in6_2, ?_⟩
  refine nm_r (e' := (rx_6 2 2 1 2 0 0)) (rx_u2 rfl rfl) ?_
  refine ⟨rx_in6_2, ?_⟩
  refine br_f (by decide +kernel) ?_
  refine br_f (by decide +kernel) ?_
  refine br_t (by decide +kernel) ?_
  refine ⟨rx_in6_2, ?_⟩
  refine nm_r (e' := (rx_6 0 0 2 0 0 0)) (rx_u2 rfl (by decide +kernel)) ?_
  refine nm_r (e' := (0 : Int32)) (by decide +kernel) ?_
  refine ⟨rx_in6_2, ?_⟩
  refine br_f (by decide +kernel) ?_
  refine nm_r (e' := (0 : Int32)) (by decide +kernel) ?_
  refine nm_r (e' := (1 : Int32)) (by decide +kernel) ?_
  refine br_f (by decide +kernel) ?_
  refine ⟨(by decide +kernel), ?_⟩
  refine nm_r (e' := (3 : Int32)) (by decide +kernel) ?_
  refine ⟨rx_in6_3, ?_⟩
  refine br_f (by decide +kernel) ?_
  refine ⟨rx_in6_3, ?_⟩
  refine br_f (by decide +kernel) ?_
  refine ⟨rx_in6_3, ?_⟩
  refine br_f (by decide +kernel) ?_
  refine br_t (by decide +kernel) ?_
  refine ⟨rx_in6_3, ?_⟩
  refine br_f (by decide +kernel) ?_
  refine nm_r (e' := (0 : Int32)) (by decide +kernel) ?_
  refine nm_r (e' := (2 : Int32)) (by decide +kernel) ?_
  refine br_t (by decide +kernel) ?_
  exact hp
theorem rx_beg_26 {post : St2 → Prop} {f0_size f0_at f0_state f0_count f0_guessBits f0_fetchAt f0_fetching : Int32} {a1 a2 a3 a4 a5 a7 a9 a10 a11 a12 a13 a14 a15 a16 a17 a18 a19 : Nat → Int32} (hp : post (f0_size, f0_at, f0_state, f0_count, f0_guessBits, f0_fetchAt, f0_fetching, 2, 2, a1, a2, a3, a4, a5, (rx_6 3 5 4 9 0 0), a7, (rx_6 2 2 1 2 0 0), a9, a10, a11, a12, a13, a14, a15, a16, a17, a18, a19)) :
    wpX_begin post (f0_size, f0_at, f0_state, f0_count, f0_guessBits, f0_fetchAt, f0_fetching, 2, 2, a1, a2, a3, a4, a5, (rx_6 3 5 4 9 0 0), a7, (rx_6 2 2 1 2 0 0), a9, a10, a11, a12, a13, a14, a15, a16, a17, a18, a19) := by
  refine ⟨7, ?_⟩
  refine br_f (by decide +kernel) ?_
  refine ⟨(by decide +kernel), ?_⟩
  refine nm_r (e' := (2 : Int32)) (by decide +kernel) ?_
  refine ⟨rx_in6_2, ?_⟩
  refine br_t (by decide +kernel) ?_
  refine ⟨rx_in6_2, ?_⟩
  refine br_f (by decide +kernel) ?_
  refine ⟨rx_in6_2, ?_⟩
  refine br_f (by decide +kernel) ?_
  refine nm_r (e' := (0 : Int32)) (by decide +kernel) ?_
  refine nm_r (e' := (1 : Int32)) (by decide +kernel) ?_
  refine br_f (by decide +kernel) ?_
  refine ⟨(by decide +kernel), ?_⟩
  refine nm_r (e' := (3 : Int32)) (by decide +kernel) ?_
  refine ⟨rx_in6_3, ?_⟩
  refine br_f (by decide +kernel) ?_
  refine nm_r (e' := (0 : Int32)) (by decide +kernel) ?_
  refine nm_r (e' := (2 : Int32)) (by decide +kernel) ?_
  refine br_t (by decide +kernel) ?_
  refine ⟨7, ?_⟩
  refine br_f (by decide +kernel) ?_
  refine ⟨(by decide +kernel), ?_⟩
  refine nm_r (e' := (2 : Int32)) (by decide +kernel) ?_
  refine ⟨rx_in6_2, ?_⟩
  refine br_f (by decide +kernel) ?_
  refine ⟨rx_in6_2, ?_⟩
  refine br_f (by decide +kernel) ?_
  refine ⟨rx_in6_2, ?_⟩
  refine br_f (by decide +kernel) ?_
  refine br_t (by decide +kernel) ?_
  refine ⟨rx_in6_2, ?_⟩
  refine br_f (by decide +kernel) ?_
  refine nm_r (e' := (0 : Int32)) (by decide +kernel) ?_
  refine nm_r (e' := (1 : Int32)) (by decide +kernel) ?_
  refine br_f (by decide +kernel) ?_
  refine ⟨(by decide +kernel), ?_⟩
  refine nm_r (e' := (3 : Int32)) (by decide +kernel) ?_
  refine ⟨rx_in6_3, ?_⟩
  refine br_f (by decide +kernel) ?_
  refine ⟨rx_in6_3, ?_⟩
  refine br_f (by decide +kernel) ?_
  refine ⟨rx_in6_3, ?_⟩
  refine br_f (by decide +kernel) ?_
  refine br_t (by decide +kernel) ?_
  refine ⟨rx_in6_3, ?_⟩
  refine br_f (by decide +kernel) ?_
  refine nm_r (e' := (0 : Int32)) (by decide +kernel) ?_
  refine nm_r (e' := (2 : Int32)) (by decide +kernel) ?_
  refine br_t (by decide +kernel) ?_
  exact hp
theorem rx_beg_27 {post : St2 → Prop} {f0_size f0_at f0_state f0_count f0_guessBits f0_fetchAt f0_fetching : Int32} {a1 a2 a3 a4 a5 a7 a9 a10 a11 a12 a13 a14 a15 a16 a17 a18 a19 : Nat → Int32} (hp : post (f0_size, f0_at, f0_state, f0_count, f0_guessBits, f0_fetchAt, f0_fetching, 2, 2, a1, a2, a3, a4, a5, (rx_6 3 5 4 9 0 0), a7, (rx_6 2 2 2 2 0 0), a9, a10, a11, a12, a13, a14, a15, a16, a17, a18, a19)) :
    wpX_begin post (f0_size, f0_at, f0_state, f0_count, f0_guessBits, f0_fetchAt, f0_fetching, 2, 2, a1, a2, a3, a4, a5, (rx_6 3 5 4 9 0 0), a7, (rx_6 2 2 2 2 0 0), a9, a10, a11, a12, a13, a14, a15, a16, a17, a18, a19) := by
  refine ⟨7, ?_⟩
  refine br_f (by decide +kernel) ?_
  refine ⟨(by decide +kernel), ?_⟩
  refine nm_r (e' := (2 : Int32)) (by decide +kernel) ?_
  refine ⟨rx_in6_2, ?_⟩
  refine br_f (by decide +kernel) ?_
  refine nm_r (e' := (0 : Int32)) (by decide +kernel) ?_
  refine nm_r (e' := (1 : Int32)) (by decide +kernel) ?_
  refine br_f (by decide +kernel) ?_
  refine ⟨(by decide +kernel), ?_⟩
  refine nm_r (e' := (3 : Int32)) (by decide +kernel) ?_
  refine ⟨rx_in6_3, ?_⟩
  refine br_f (by decide +kernel) ?_
  refine nm_r (e' := (0 : Int32)) (by decide +kernel) ?_
  refine nm_r (e' := (2 : Int32)) (by decide +kernel) ?_
  refine br_t (by decide +kernel) ?_
  refine ⟨7, ?_⟩
  refine br_f (by decide +kernel) ?_
  refine ⟨(by decide +kernel), ?_⟩
  refine nm_r (e' := (2 : Int32)) (by decide +kernel) ?_
  refine ⟨rx_in6_2, ?_⟩
  refine br_f (by decide +kernel) ?_
  refine ⟨rx_in6_2, ?_⟩
  refine br_f (by decide +kernel) ?_
  refine ⟨rx_in6_2, ?_⟩
  refine br_f (by decide +kernel) ?_
  refine br_t (by decide +kernel) ?_
  refine ⟨rx_in6_2, ?_⟩
  refine br_f (by decide +kernel) ?_
  refine nm_r (e' := (0 : Int32)) (by decide +kernel) ?_
  refine nm_r (e' := (1 : Int32)) (by decide +kernel) ?_
  refine br_f (by decide +kernel) ?_
  refine ⟨(by decide +kernel), ?_⟩
  refine nm_r (e' := (3 : Int32)) (by decide +kernel) ?_
  refine ⟨rx_in6_3, ?_⟩
  refine br_f (by decide +kernel) ?_
  refine ⟨rx_in6_3, ?_⟩
  refine br_f (by decide +kernel) ?_
  refine ⟨rx_in6_3, ?_⟩
  refine br_f (by decide +kernel) ?_
  refine br_t (by decide +kernel) ?_
  refine ⟨rx_in6_3, ?_⟩
  refine br_f (by decide +kernel) ?_
  refine nm_r (e' := (0 : Int32)) (by decide +kernel) ?_
  refine nm_r (e' := (2 : Int32)) (by decide +kernel) ?_
  refine br_t (by decide +kernel) ?_
  exact hp
theorem rx_beg_28 {post : St2 → Prop} {f0_size f0_at f0_state f0_count f0_guessBits f0_fetchAt f0_fetching : Int32} {a1 a2 a3 a4 a5 a7 a9 a10 a11 a12 a13 a14 a15 a16 a17 a18 a19 : Nat → Int32} (hp : post (f0_size, f0_at, f0_state, f0_count, f0_guessBits, f0_fetchAt, f0_fetching, 3, 1, a1, a2, a3, a4, a5, (rx_6 3 5 4 9 0 0), a7, (rx_6 2 2 2 2 0 0), a9, a10, a11, a12, a13, a14, a15, a16, a17, a18, a19)) :
    wpX_begin post (f0_size, f0_at, f0_state, f0_count, f0_guessBits, f0_fetchAt, f0_fetching, 3, 1, a1, a2, a3, a4, a5, (rx_6 3 5 4 9 0 0), a7, (rx_6 2 2 2 2 0 0), a9, a10, a11, a12, a13, a14, a15, a16, a17, a18, a19) := by
  refine ⟨7, ?_⟩
  refine br_f (by decide +kernel) ?_
  refine ⟨(by decide +kernel), ?_⟩
  refine nm_r (e' := (3 : Int32)) (by decide +kernel) ?_
  refine ⟨rx_in6_3, ?_⟩
  refine br_f (by decide +kernel) ?_
  refine nm_r (e' := (0 : Int32)) (by decide +kernel) ?_
  refine nm_r (e' := (1 : Int32)) (by decide +kernel) ?_
  refine br_t (by decide +kernel) ?_
  refine ⟨7, ?_⟩
  refine br_f (by decide +kernel) ?_
  refine ⟨(by decide +kernel), ?_⟩
  refine nm_r (e' := (3 : Int32)) (by decide +kernel) ?_
  refine ⟨rx_in6_3, ?_⟩
  refine br_f (by decide +kernel) ?_
  refine ⟨rx_in6_3, ?_⟩
  refine br_f (by decide +kernel) ?_
  refine ⟨rx_in6_3, ?_⟩
  refine br_f (by decide +kernel) ?_
  refine br_t (by decide +kernel) ?_
  refine ⟨rx_in6_3, ?_⟩
  refine br_f (by decide +kernel) ?_
  refine nm_r (e' := (0 : Int32)) (by decide +kernel) ?_
  refine nm_r (e' := (1 : Int32)) (by decide +kernel) ?_
  refine br_t (by decide +kernel) ?_
  exact hp
end
section
theorem rx_iss_1 {post : St2 → Prop} {f0_at f0_state f0_count f0_guessBits d4_0 d4_1 d4_2 d4_3 d4_4 d4_5 d17_0 d17_1 d17_2 d17_3 d17_4 d17_5 d18_0 d18_1 d18_2 d18_3 d18_4 d18_5 : Int32} {a5 a9 a10 a11 a13 : Nat → Int32} (hp : post (3, f0_at, f0_state, f0_count, f0_guessBits, 1, 1, 0, 1, (rx_6 1 5 4 0 0 0), (rx_6 18 14 12 0 0 0), (rx_6 0 0 0 0 0 0), (rx_6 d4_0 d4_1 d4_2 d4_3 d4_4 d4_5), a5, (rx_6 1 0 0 0 0 0), (rx_6 0 0 0 0 0 0), (rx_6 0 0 0 0 0 0), a9, a10, a11, (rx_6 0 0 0 0 0 0), a13, (rx_6 2 0 0 0 0 0), (rx_6 (-1) 0 0 0 0 0), (rx_6 (-1) 0 0 0 0 0), (rx_6 d4_0 d17_1 d17_2 d17_3 d17_4 d17_5), (rx_6 d4_1 d18_1 d18_2 d18_3 d18_4 d18_5), (rx_6 (-1) (-1) 0 (-1) 0 0))) :
    wpX_issue post (3, f0_at, f0_state, f0_count, f0_guessBits, 0, 1, 0, 0, (rx_6 1 5 4 0 0 0), (rx_6 18 14 12 0 0 0), (rx_6 0 0 0 0 0 0), (rx_6 d4_0 d4_1 d4_2 d4_3 d4_4 d4_5), a5, (rx_6 0 0 0 0 0 0), (rx_6 0 0 0 0 0 0), (rx_6 0 0 0 0 0 0), a9, a10, a11, (rx_6 0 0 0 0 0 0), a13, (rx_6 0 0 0 0 0 0), (rx_6 0 0 0 0 0 0), (rx_6 0 0 0 0 0 0), (rx_6 d17_0 d17_1 d17_2 d17_3 d17_4 d17_5), (rx_6 d18_0 d18_1 d18_2 d18_3 d18_4 d18_5), (rx_6 (-1) (-1) (-1) (-1) 0 0)) := by
  refine br_f (by decide +kernel) ?_
  refine br_f (by decide +kernel) ?_
  refine ⟨(by decide +kernel), ?_⟩
  refine nm_r (e' := (0 : Int32)) (by decide +kernel) ?_
  refine br_f (by decide +kernel) ?_
  refine br_f (by decide +kernel) ?_
  refine br_f (by decide +kernel) ?_
  refine ⟨rx_in16_0, ?_⟩
  refine ⟨rx_in6_0, ?_⟩
  refine nm_r (e' := (rx_6 1 0 0 0 0 0)) (rx_u0 rfl (by decide +kernel)) ?_
  refine ⟨rx_in6_0, ?_⟩
  refine nm_r (e' := (rx_6 0 0 0 0 0 0)) (rx_u0 rfl rfl) ?_
  refine ⟨rx_in6_0, ?_⟩
  refine nm_r (e' := (rx_6 0 0 0 0 0 0)) (rx_u0 rfl rfl) ?_
  refine ⟨rx_in6_0, ?_⟩
  refine nm_r (e' := (rx_6 0 0 0 0 0 0)) (rx_u0 rfl rfl) ?_
  refine ⟨rx_in6_0, ?_⟩
  refine nm_r (e' := (rx_6 (-1) 0 0 0 0 0)) (rx_u0 rfl rfl) ?_
  refine ⟨rx_in6_0, ?_⟩
  refine nm_r (e' := (rx_6 (-1) 0 0 0 0 0)) (rx_u0 rfl rfl) ?_
  refine nm_r (e' := (1 : Int32)) (by decide +kernel) ?_
  refine br_f (by decide +kernel) ?_
  refine ⟨rx_in16_0, ?_⟩
  refine nm_r (e' := (2 : Int32)) (by decide +kernel) ?_
  refine nm_r (e' := (0 : Int32)) (by decide +kernel) ?_
  refine nm_r (e' := (1 : Int32)) (by decide +kernel) ?_
  refine br_f (by decide +kernel) ?_
  refine br_f (by decide +kernel) ?_
  refine ⟨rx_in4_0, ?_⟩
  refine nm_r (e' := ((-1) : Int32)) (by decide +kernel) ?_
  refine br_t (by decide +kernel) ?_
  refine br_t (by decide +kernel) ?_
  refine ⟨rx_in6_0, ?_⟩
  refine nm_r (e' := (rx_6 (-1) 0 0 0 0 0)) (rx_u0 rfl (by decide +kernel)) ?_
  refine br_f (by decide +kernel) ?_
  refine ⟨rx_in4_0, ?_⟩
  refine ⟨rx_in6_0, ?_⟩
  refine nm_r (e' := (rx_6 d4_0 d17_1 d17_2 d17_3 d17_4 d17_5)) (rx_u0 rfl (rx_g0 rfl)) ?_
  refine br_f (by decide +kernel) ?_
  refine ⟨rx_in4_1, ?_⟩
  refine nm_r (e' := ((-1) : Int32)) (by decide +kernel) ?_
  refine br_t (by decide +kernel) ?_
  refine br_t (by decide +kernel) ?_
  refine ⟨rx_in6_0, ?_⟩
  refine nm_r (e' := (rx_6 (-1) 0 0 0 0 0)) (rx_u0 rfl (by decide +kernel)) ?_
  refine br_f (by decide +kernel) ?_
  refine ⟨rx_in4_1, ?_⟩
  refine ⟨rx_in6_0, ?_⟩
  refine nm_r (e' := (rx_6 d4_1 d18_1 d18_2 d18_3 d18_4 d18_5)) (rx_u0 rfl (rx_g1 rfl)) ?_
  refine br_f (by decide +kernel) ?_
  refine ⟨rx_in6_0, ?_⟩
  refine nm_r (e' := (rx_6 2 0 0 0 0 0)) (rx_u0 rfl (by decide +kernel)) ?_
  refine ⟨rx_in4_2, ?_⟩
  refine nm_r (e' := (rx_6 (-1) (-1) 0 (-1) 0 0)) (rx_u2 rfl (by decide +kernel)) ?_
  refine ⟨rx_in16_0, ?_⟩
  refine ⟨rx_in6_0, ?_⟩
  refine nm_r (e' := (1 : Int32)) (by decide +kernel) ?_
  refine br_f (by decide +kernel) ?_
  refine br_t (by decide +kernel) ?_
  refine br_f (by decide +kernel) ?_
  refine br_f (by decide +kernel) ?_
  refine br_f (by decide +kernel) ?_
  exact hp
theorem rx_iss_2 {post : St2 → Prop} {f0_at f0_state f0_count f0_guessBits d4_0 d4_1 d4_2 d4_3 d4_4 d4_5 d10_0 d10_1 d10_2 d10_3 d10_4 d10_5 d17_0 d17_1 d17_2 d17_3 d17_4 d17_5 d18_0 d18_1 d18_2 d18_3 d18_4 d18_5 : Int32} {a5 a9 a11 a13 a14 : Nat → Int32} (hp : post (3, f0_at, f0_state, f0_count, f0_guessBits, 2, 1, 0, 2, (rx_6 1 5 4 0 0 0), (rx_6 18 14 12 0 0 0), (rx_6 0 0 0 0 0 0), (rx_6 d4_0 d4_1 d4_2 d4_3 d4_4 d4_5), a5, (rx_6 1 5 0 0 0 0), (rx_6 0 1 0 0 0 0), (rx_6 1 0 0 0 0 0), a9, (rx_6 d10_0 d10_1 d10_2 d10_3 d10_4 d10_5), a11, (rx_6 0 0 0 0 0 0), a13, a14, (rx_6 (-1) 0 0 0 0 0), (rx_6 (-1) (-1) 0 0 0 0), (rx_6 d17_0 d10_0 d17_2 d17_3 d17_4 d17_5), (rx_6 d18_0 d4_3 d18_2 d18_3 d18_4 d18_5), (rx_6 (-1) (-1) 0 (-1) 0 0))) :
    wpX_issue post (3, f0_at, f0_state, f0_count, f0_guessBits, 1, 1, 0, 1, (rx_6 1 5 4 0 0 0), (rx_6 18 14 12 0 0 0), (rx_6 0 0 0 0 0 0), (rx_6 d4_0 d4_1 d4_2 d4_3 d4_4 d4_5), a5, (rx_6 1 0 0 0 0 0), (rx_6 0 0 0 0 0 0), (rx_6 1 0 0 0 0 0), a9, (rx_6 d10_0 d10_1 d10_2 d10_3 d10_4 d10_5), a11, (rx_6 0 0 0 0 0 0), a13, a14, (rx_6 (-1) 0 0 0 0 0), (rx_6 (-1) 0 0 0 0 0), (rx_6 d17_0 d17_1 d17_2 d17_3 d17_4 d17_5), (rx_6 d18_0 d18_1 d18_2 d18_3 d18_4 d18_5), (rx_6 (-1) (-1) 0 (-1) 0 0)) := by
  refine br_f (by decide +kernel) ?_
  refine br_f (by decide +kernel) ?_
  refine ⟨(by decide +kernel), ?_⟩
  refine nm_r (e' := (1 : Int32)) (by decide +kernel) ?_
  refine br_f (by decide +kernel) ?_
  refine br_f (by decide +kernel) ?_
  refine br_f (by decide +kernel) ?_
  refine ⟨rx_in16_1, ?_⟩
  refine ⟨rx_in6_1, ?_⟩
  refine nm_r (e' := (rx_6 1 5 0 0 0 0)) (rx_u1 rfl (by decide +kernel)) ?_
  refine ⟨rx_in6_1, ?_⟩
  refine nm_r (e' := (rx_6 0 1 0 0 0 0)) (rx_u1 rfl rfl) ?_
  refine ⟨rx_in6_1, ?_⟩
  refine nm_r (e' := (rx_6 1 0 0 0 0 0)) (rx_u1 rfl rfl) ?_
  refine ⟨rx_in6_1, ?_⟩
  refine nm_r (e' := (rx_6 0 0 0 0 0 0)) (rx_u1 rfl rfl) ?_
  refine ⟨rx_in6_1, ?_⟩
  refine nm_r (e' := (rx_6 (-1) (-1) 0 0 0 0)) (rx_u1 rfl rfl) ?_
  refine ⟨rx_in6_1, ?_⟩
  refine nm_r (e' := (rx_6 (-1) (-1) 0 0 0 0)) (rx_u1 rfl rfl) ?_
  refine nm_r (e' := (2 : Int32)) (by decide +kernel) ?_
  refine br_f (by decide +kernel) ?_
  refine ⟨rx_in16_1, ?_⟩
  refine nm_r (e' := (2 : Int32)) (by decide +kernel) ?_
  refine nm_r (e' := (3 : Int32)) (by decide +kernel) ?_
  refine nm_r (e' := (0 : Int32)) (by decide +kernel) ?_
  refine br_f (by decide +kernel) ?_
  refine br_t (by decide +kernel) ?_
  refine br_t (by decide +kernel) ?_
  refine ⟨rx_in4_2, ?_⟩
  refine nm_r (e' := (0 : Int32)) (by decide +kernel) ?_
  refine br_f (by decide +kernel) ?_
  refine ⟨rx_in6_0, ?_⟩
  refine br_f (by decide +kernel) ?_
  refine br_f (by decide +kernel) ?_
  refine ⟨rx_in6_1, ?_⟩
  refine nm_r (e' := (rx_6 (-1) 0 0 0 0 0)) (rx_u1 rfl (by decide +kernel)) ?_
  refine br_t (by decide +kernel) ?_
  refine ⟨rx_in6_0, ?_⟩
  refine ⟨rx_in6_1, ?_⟩
  refine nm_r (e' := (rx_6 d17_0 d10_0 d17_2 d17_3 d17_4 d17_5)) (rx_u1 rfl (rx_g0 rfl)) ?_
  refine ⟨rx_in4_3, ?_⟩
  refine nm_r (e' := ((-1) : Int32)) (by decide +kernel) ?_
  refine br_t (by decide +kernel) ?_
  refine br_t (by decide +kernel) ?_
  refine ⟨rx_in6_1, ?_⟩
  refine nm_r (e' := (rx_6 (-1) (-1) 0 0 0 0)) (rx_u1 rfl (by decide +kernel)) ?_
  refine br_f (by decide +kernel) ?_
  refine ⟨rx_in4_3, ?_⟩
  refine ⟨rx_in6_1, ?_⟩
  refine nm_r (e' := (rx_6 d18_0 d4_3 d18_2 d18_3 d18_4 d18_5)) (rx_u1 rfl (rx_g3 rfl)) ?_
  refine br_t (by decide +kernel) ?_
  refine ⟨rx_in16_1, ?_⟩
  refine ⟨rx_in6_1, ?_⟩
  refine nm_r (e' := (2 : Int32)) (by decide +kernel) ?_
  refine br_f (by decide +kernel) ?_
  refine br_t (by decide +kernel) ?_
  refine br_f (by decide +kernel) ?_
  refine br_f (by decide +kernel) ?_
  refine br_f (by decide +kernel) ?_
  exact hp
theorem rx_iss_3 {post : St2 → Prop} {f0_at f0_state f0_count f0_guessBits d4_0 d4_1 d4_2 d4_3 d4_4 d4_5 d17_0 d17_1 d17_2 d17_3 d17_4 d17_5 : Int32} {a5 a9 a10 a11 a13 a18 : Nat → Int32} (hp : post (3, f0_at, f0_state, f0_count, f0_guessBits, 3, 1, 0, 3, (rx_6 1 5 4 0 0 0), (rx_6 18 14 12 0 0 0), (rx_6 0 0 0 0 0 0), (rx_6 d4_0 d4_1 d4_2 d4_3 d4_4 d4_5), a5, (rx_6 1 5 4 0 0 0), (rx_6 0 1 2 0 0 0), (rx_6 2 1 0 0 0 0), a9, a10, a11, (rx_6 0 0 0 0 0 0), a13, (rx_6 2 0 0 0 0 0), (rx_6 (-1) (-1) (-1) 0 0 0), (rx_6 (-1) (-1) (-1) 0 0 0), (rx_6 d17_0 d17_1 d4_3 d17_3 d17_4 d17_5), a18, (rx_6 2 (-1) 0 (-1) 0 0))) :
    wpX_issue post (3, f0_at, f0_state, f0_count, f0_guessBits, 2, 1, 0, 2, (rx_6 1 5 4 0 0 0), (rx_6 18 14 12 0 0 0), (rx_6 0 0 0 0 0 0), (rx_6 d4_0 d4_1 d4_2 d4_3 d4_4 d4_5), a5, (rx_6 1 5 0 0 0 0), (rx_6 0 1 0 0 0 0), (rx_6 2 1 0 0 0 0), a9, a10, a11, (rx_6 0 0 0 0 0 0), a13, (rx_6 2 0 0 0 0 0), (rx_6 (-1) (-1) 0 0 0 0), (rx_6 (-1) (-1) 0 0 0 0), (rx_6 d17_0 d17_1 d17_2 d17_3 d17_4 d17_5), a18, (rx_6 (-1) (-1) 0 (-1) 0 0)) := by
  refine br_f (by decide +kernel) ?_
  refine br_f (by decide +kernel) ?_
  refine ⟨(by decide +kernel), ?_⟩
  refine nm_r (e' := (2 : Int32)) (by decide +kernel) ?_
  refine br_f (by decide +kernel) ?_
  refine br_f (by decide +kernel) ?_
  refine br_f (by decide +kernel) ?_
  refine ⟨rx_in16_2, ?_⟩
  refine ⟨rx_in6_2, ?_⟩
  refine nm_r (e' := (rx_6 1 5 4 0 0 0)) (rx_u2 rfl (by decide +kernel)) ?_
  refine ⟨rx_in6_2, ?_⟩
  refine nm_r (e' := (rx_6 0 1 2 0 0 0)) (rx_u2 rfl rfl) ?_
  refine ⟨rx_in6_2, ?_⟩
  refine nm_r (e' := (rx_6 2 1 0 0 0 0)) (rx_u2 rfl rfl) ?_
  refine ⟨rx_in6_2, ?_⟩
  refine nm_r (e' := (rx_6 0 0 0 0 0 0)) (rx_u2 rfl rfl) ?_
  refine ⟨rx_in6_2, ?_⟩
  refine nm_r (e' := (rx_6 (-1) (-1) (-1) 0 0 0)) (rx_u2 rfl rfl) ?_
  refine ⟨rx_in6_2, ?_⟩
  refine nm_r (e' := (rx_6 (-1) (-1) (-1) 0 0 0)) (rx_u2 rfl rfl) ?_
  refine nm_r (e' := (3 : Int32)) (by decide +kernel) ?_
  refine br_f (by decide +kernel) ?_
  refine ⟨rx_in16_2, ?_⟩
  refine nm_r (e' := (0 : Int32)) (by decide +kernel) ?_
  refine nm_r (e' := (3 : Int32)) (by decide +kernel) ?_
  refine nm_r (e' := (0 : Int32)) (by decide +kernel) ?_
  refine br_f (by decide +kernel) ?_
  refine br_f (by decide +kernel) ?_
  refine ⟨rx_in4_3, ?_⟩
  refine nm_r (e' := ((-1) : Int32)) (by decide +kernel) ?_
  refine br_t (by decide +kernel) ?_
  refine br_t (by decide +kernel) ?_
  refine ⟨rx_in6_2, ?_⟩
  refine nm_r (e' := (rx_6 (-1) (-1) (-1) 0 0 0)) (rx_u2 rfl (by decide +kernel)) ?_
  refine br_f (by decide +kernel) ?_
  refine ⟨rx_in4_3, ?_⟩
  refine ⟨rx_in6_2, ?_⟩
  refine nm_r (e' := (rx_6 d17_0 d17_1 d4_3 d17_3 d17_4 d17_5)) (rx_u2 rfl (rx_g3 rfl)) ?_
  refine br_t (by decide +kernel) ?_
  refine br_f (by decide +kernel) ?_
  refine ⟨rx_in6_2, ?_⟩
  refine nm_r (e' := (rx_6 2 0 0 0 0 0)) (rx_u2 rfl (by decide +kernel)) ?_
  refine ⟨rx_in4_0, ?_⟩
  refine nm_r (e' := (rx_6 2 (-1) 0 (-1) 0 0)) (rx_u0 rfl (by decide +kernel)) ?_
  refine ⟨rx_in16_2, ?_⟩
  refine ⟨rx_in6_2, ?_⟩
  refine nm_r (e' := (3 : Int32)) (by decide +kernel) ?_
  refine br_f (by decide +kernel) ?_
  refine br_t (by decide +kernel) ?_
  refine br_f (by decide +kernel) ?_
  refine br_f (by decide +kernel) ?_
  refine br_f (by decide +kernel) ?_
  exact hp
theorem rx_iss_4 {post : St2 → Prop} {f0_at f0_state f0_count f0_guessBits : Int32} {a1 a2 a3 a4 a5 a9 a10 a11 a13 a14 a17 a18 a19 : Nat → Int32} (hp : post (3, f0_at, f0_state, f0_count, f0_guessBits, 3, 0, 1, 3, a1, a2, a3, a4, a5, (rx_6 1 5 4 9 0 0), (rx_6 0 1 2 3 0 0), (rx_6 2 2 0 0 0 0), a9, a10, a11, (rx_6 0 0 0 0 0 0), a13, a14, (rx_6 (-1) (-1) (-1) (-1) 0 0), (rx_6 (-1) (-1) (-1) (-1) 0 0), a17, a18, a19)) :
    wpX_issue post (3, f0_at, f0_state, f0_count, f0_guessBits, 3, 1, 1, 2, a1, a2, a3, a4, a5, (rx_6 1 5 4 0 0 0), (rx_6 0 1 2 0 0 0), (rx_6 2 2 0 0 0 0), a9, a10, a11, (rx_6 0 0 0 0 0 0), a13, a14, (rx_6 (-1) (-1) (-1) 0 0 0), (rx_6 (-1) (-1) (-1) 0 0 0), a17, a18, a19) := by
  refine br_f (by decide +kernel) ?_
  refine br_f (by decide +kernel) ?_
  refine ⟨(by decide +kernel), ?_⟩
  refine nm_r (e' := (3 : Int32)) (by decide +kernel) ?_
  refine br_f (by decide +kernel) ?_
  refine br_t (by decide +kernel) ?_
  refine br_t (by decide +kernel) ?_
  refine ⟨rx_in6_3, ?_⟩
  refine nm_r (e' := (rx_6 1 5 4 9 0 0)) (rx_u3 rfl (by decide +kernel)) ?_
  refine ⟨rx_in6_3, ?_⟩
  refine nm_r (e' := (rx_6 0 1 2 3 0 0)) (rx_u3 rfl rfl) ?_
  refine ⟨rx_in6_3, ?_⟩
  refine nm_r (e' := (rx_6 2 2 0 0 0 0)) (rx_u3 rfl rfl) ?_
  refine ⟨rx_in6_3, ?_⟩
  refine nm_r (e' := (rx_6 0 0 0 0 0 0)) (rx_u3 rfl rfl) ?_
  refine ⟨rx_in6_3, ?_⟩
  refine nm_r (e' := (rx_6 (-1) (-1) (-1) (-1) 0 0)) (rx_u3 rfl rfl) ?_
  refine ⟨rx_in6_3, ?_⟩
  refine nm_r (e' := (rx_6 (-1) (-1) (-1) (-1) 0 0)) (rx_u3 rfl rfl) ?_
  refine nm_r (e' := (3 : Int32)) (by decide +kernel) ?_
  refine br_t (by decide +kernel) ?_
  exact hp
theorem rx_iss_5 {post : St2 → Prop} {f0_size f0_at f0_state f0_count f0_guessBits f0_fetchAt f0_first : Int32} {a1 a2 a3 a4 a5 a6 a7 a8 a9 a10 a11 a12 a13 a14 a15 a16 a17 a18 a19 : Nat → Int32} (hp : post (f0_size, f0_at, f0_state, f0_count, f0_guessBits, f0_fetchAt, 0, f0_first, 2, a1, a2, a3, a4, a5, a6, a7, a8, a9, a10, a11, a12, a13, a14, a15, a16, a17, a18, a19)) :
    wpX_issue post (f0_size, f0_at, f0_state, f0_count, f0_guessBits, f0_fetchAt, 0, f0_first, 2, a1, a2, a3, a4, a5, a6, a7, a8, a9, a10, a11, a12, a13, a14, a15, a16, a17, a18, a19) := by
  refine br_f (by decide +kernel) ?_
  refine br_t (by decide +kernel) ?_
  exact hp
theorem rx_iss_6 {post : St2 → Prop} {f0_size f0_at f0_state f0_count f0_guessBits f0_fetchAt f0_first : Int32} {a1 a2 a3 a4 a5 a6 a7 a8 a9 a10 a11 a12 a13 a14 a15 a16 a17 a18 a19 : Nat → Int32} (hp : post (f0_size, f0_at, f0_state, f0_count, f0_guessBits, f0_fetchAt, 0, f0_first, 1, a1, a2, a3, a4, a5, a6, a7, a8, a9, a10, a11, a12, a13, a14, a15, a16, a17, a18, a19)) :
    wpX_issue post (f0_size, f0_at, f0_state, f0_count, f0_guessBits, f0_fetchAt, 0, f0_first, 1, a1, a2, a3, a4, a5, a6, a7, a8, a9, a10, a11, a12, a13, a14, a15, a16, a17, a18, a19) := by
  refine br_f (by decide +kernel) ?_
  refine br_t (by decide +kernel) ?_
  exact hp
theorem rx_iss_7 {post : St2 → Prop} {f0_at f0_state f0_count f0_guessBits : Int32} {a1 a2 a3 a4 a5 a9 a10 a11 a13 a14 a17 a18 a19 : Nat → Int32} (hp : post (3, f0_at, f0_state, f0_count, f0_guessBits, 3, 0, 1, 3, a1, a2, a3, a4, a5, (rx_6 1 5 4 9 0 0), (rx_6 0 1 2 3 0 0), (rx_6 2 2 0 0 0 0), a9, a10, a11, (rx_6 0 1 0 0 0 0), a13, a14, (rx_6 (-1) (-1) (-1) (-1) 0 0), (rx_6 (-1) (-1) (-1) (-1) 0 0), a17, a18, a19)) :
    wpX_issue post (3, f0_at, f0_state, f0_count, f0_guessBits, 3, 1, 1, 2, a1, a2, a3, a4, a5, (rx_6 1 5 4 0 0 0), (rx_6 0 1 2 0 0 0), (rx_6 2 2 0 0 0 0), a9, a10, a11, (rx_6 0 1 0 0 0 0), a13, a14, (rx_6 (-1) (-1) (-1) 0 0 0), (rx_6 (-1) (-1) (-1) 0 0 0), a17, a18, a19) := by
  refine br_f (by decide +kernel) ?_
  refine br_f (by decide +kernel) ?_
  refine ⟨(by decide +kernel), ?_⟩
  refine nm_r (e' := (3 : Int32)) (by decide +kernel) ?_
  refine br_f (by decide +kernel) ?_
  refine br_t (by decide +kernel) ?_
  refine br_t (by decide +kernel) ?_
  refine ⟨rx_in6_3, ?_⟩
  refine nm_r (e' := (rx_6 1 5 4 9 0 0)) (rx_u3 rfl (by decide +kernel)) ?_
  refine ⟨rx_in6_3, ?_⟩
  refine nm_r (e' := (rx_6 0 1 2 3 0 0)) (rx_u3 rfl rfl) ?_
  refine ⟨rx_in6_3, ?_⟩
  refine nm_r (e' := (rx_6 2 2 0 0 0 0)) (rx_u3 rfl rfl) ?_
  refine ⟨rx_in6_3, ?_⟩
  refine nm_r (e' := (rx_6 0 1 0 0 0 0)) (rx_u3 rfl rfl) ?_
  refine ⟨rx_in6_3, ?_⟩
  refine nm_r (e' := (rx_6 (-1) (-1) (-1) (-1) 0 0)) (rx_u3 rfl rfl) ?_
  refine ⟨rx_in6_3, ?_⟩
  refine nm_r (e' := (rx_6 (-1) (-1) (-1) (-1) 0 0)) (rx_u3 rfl rfl) ?_
  refine nm_r (e' := (3 : Int32)) (by decide +kernel) ?_
  refine br_t (by decide +kernel) ?_
  exact hp
theorem rx_iss_8 {post : St2 → Prop} {f0_at f0_state f0_count f0_guessBits d4_0 d4_1 d4_2 d4_3 d4_4 d4_5 d17_0 d17_1 d17_2 d17_3 d17_4 d17_5 d18_0 d18_1 d18_2 d18_3 d18_4 d18_5 : Int32} {a5 a9 a10 a11 a13 : Nat → Int32} (hp : post (3, f0_at, f0_state, f0_count, f0_guessBits, 1, 1, 0, 1, (rx_6 2 5 4 0 0 0), (rx_6 18 14 12 0 0 0), (rx_6 0 0 0 0 0 0), (rx_6 d4_0 d4_1 d4_2 d4_3 d4_4 d4_5), a5, (rx_6 2 0 0 0 0 0), (rx_6 0 0 0 0 0 0), (rx_6 0 0 0 0 0 0), a9, a10, a11, (rx_6 0 0 0 0 0 0), a13, (rx_6 2 0 0 0 0 0), (rx_6 (-1) 0 0 0 0 0), (rx_6 (-1) 0 0 0 0 0), (rx_6 d4_0 d17_1 d17_2 d17_3 d17_4 d17_5), (rx_6 d4_1 d18_1 d18_2 d18_3 d18_4 d18_5), (rx_6 (-1) (-1) 0 (-1) 0 0))) :
    wpX_issue post (3, f0_at, f0_state, f0_count, f0_guessBits, 0, 1, 0, 0, (rx_6 2 5 4 0 0 0), (rx_6 18 14 12 0 0 0), (rx_6 0 0 0 0 0 0), (rx_6 d4_0 d4_1 d4_2 d4_3 d4_4 d4_5), a5, (rx_6 0 0 0 0 0 0), (rx_6 0 0 0 0 0 0), (rx_6 0 0 0 0 0 0), a9, a10, a11, (rx_6 0 0 0 0 0 0), a13, (rx_6 0 0 0 0 0 0), (rx_6 0 0 0 0 0 0), (rx_6 0 0 0 0 0 0), (rx_6 d17_0 d17_1 d17_2 d17_3 d17_4 d17_5), (rx_6 d18_0 d18_1 d18_2 d18_3 d18_4 d18_5), (rx_6 (-1) (-1) (-1) (-1) 0 0)) := by
  refine br_f (by decide +kernel) ?_
  refine br_f (by decide +kernel) ?_
  refine ⟨(by decide +kernel), ?_⟩
  refine nm_r (e' := (0 : Int32)) (by decide +kernel) ?_
  refine br_f (by decide +kernel) ?_
  refine br_f (by decide +kernel) ?_
  refine br_f (by decide +kernel) ?_
  refine ⟨rx_in16_0, ?_⟩
  refine ⟨rx_in6_0, ?_⟩
  refine nm_r (e' := (rx_6 2 0 0 0 0 0)) (rx_u0 rfl (by decide +kernel)) ?_
  refine ⟨rx_in6_0, ?_⟩
  refine nm_r (e' := (rx_6 0 0 0 0 0 0)) (rx_u0 rfl rfl) ?_
  refine ⟨rx_in6_0, ?_⟩
  refine nm_r (e' := (rx_6 0 0 0 0 0 0)) (rx_u0 rfl rfl) ?_
  refine ⟨rx_in6_0, ?_⟩
  refine nm_r (e' := (rx_6 0 0 0 0 0 0)) (rx_u0 rfl rfl) ?_
  refine ⟨rx_in6_0, ?_⟩
  refine nm_r (e' := (rx_6 (-1) 0 0 0 0 0)) (rx_u0 rfl rfl) ?_
  refine ⟨rx_in6_0, ?_⟩
  refine nm_r (e' := (rx_6 (-1) 0 0 0 0 0)) (rx_u0 rfl rfl) ?_
  refine nm_r (e' := (1 : Int32)) (by decide +kernel) ?_
  refine br_f (by decide +kernel) ?_
  refine ⟨rx_in16_0, ?_⟩
  refine nm_r (e' := (2 : Int32)) (by decide +kernel) ?_
  refine nm_r (e' := (0 : Int32)) (by decide +kernel) ?_
  refine nm_r (e' := (1 : Int32)) (by decide +kernel) ?_
  refine br_f (by decide +kernel) ?_
  refine br_f (by decide +kernel) ?_
  refine ⟨rx_in4_0, ?_⟩
  refine nm_r (e' := ((-1) : Int32)) (by decide +kernel) ?_
  refine br_t (by decide +kernel) ?_
  refine br_t (by decide +kernel) ?_
  refine ⟨rx_in6_0, ?_⟩
  refine nm_r (e' := (rx_6 (-1) 0 0 0 0 0)) (rx_u0 rfl (by decide +kernel)) ?_
  refine br_f (by decide +kernel) ?_
  refine ⟨rx_in4_0, ?_⟩
  refine ⟨rx_in6_0, ?_⟩
  refine nm_r (e' := (rx_6 d4_0 d17_1 d17_2 d17_3 d17_4 d17_5)) (rx_u0 rfl (rx_g0 rfl)) ?_
  refine br_f (by decide +kernel) ?_
  refine ⟨rx_in4_1, ?_⟩
  refine nm_r (e' := ((-1) : Int32)) (by decide +kernel) ?_
  refine br_t (by decide +kernel) ?_
  refine br_t (by decide +kernel) ?_
  refine ⟨rx_in6_0, ?_⟩
  refine nm_r (e' := (rx_6 (-1) 0 0 0 0 0)) (rx_u0 rfl (by decide +kernel)) ?_
  refine br_f (by decide +kernel) ?_
  refine ⟨rx_in4_1, ?_⟩
  refine ⟨rx_in6_0, ?_⟩
  refine nm_r (e' := (rx_6 d4_1 d18_1 d18_2 d18_3 d18_4 d18_5)) (rx_u0 rfl (rx_g1 rfl)) ?_
  refine br_f (by decide +kernel) ?_
  refine ⟨rx_in6_0, ?_⟩
  refine nm_r (e' := (rx_6 2 0 0 0 0 0)) (rx_u0 rfl (by decide +kernel)) ?_
  refine ⟨rx_in4_2, ?_⟩
  refine nm_r (e' := (rx_6 (-1) (-1) 0 (-1) 0 0)) (rx_u2 rfl (by decide +kernel)) ?_
  refine ⟨rx_in16_0, ?_⟩
  refine ⟨rx_in6_0, ?_⟩
  refine nm_r (e' := (1 : Int32)) (by decide +kernel) ?_
  refine br_f (by decide +kernel) ?_
  refine br_t (by decide +kernel) ?_
  refine br_f (by decide +kernel) ?_
  refine br_f (by decide +kernel) ?_
  refine br_f (by decide +kernel) ?_
  exact hp
theorem rx_iss_9 {post : St2 → Prop} {f0_at f0_state f0_count f0_guessBits d4_0 d4_1 d4_2 d4_3 d4_4 d4_5 d10_0 d10_1 d10_2 d10_3 d10_4 d10_5 d17_0 d17_1 d17_2 d17_3 d17_4 d17_5 d18_0 d18_1 d18_2 d18_3 d18_4 d18_5 : Int32} {a5 a9 a11 a13 a14 : Nat → Int32} (hp : post (3, f0_at, f0_state, f0_count, f0_guessBits, 2, 1, 0, 2, (rx_6 2 5 4 0 0 0), (rx_6 18 14 12 0 0 0), (rx_6 0 0 0 0 0 0), (rx_6 d4_0 d4_1 d4_2 d4_3 d4_4 d4_5), a5, (rx_6 2 5 0 0 0 0), (rx_6 0 1 0 0 0 0), (rx_6 1 0 0 0 0 0), a9, (rx_6 d10_0 d10_1 d10_2 d10_3 d10_4 d10_5), a11, (rx_6 0 0 0 0 0 0), a13, a14, (rx_6 (-1) 0 0 0 0 0), (rx_6 (-1) (-1) 0 0 0 0), (rx_6 d17_0 d10_0 d17_2 d17_3 d17_4 d17_5), (rx_6 d18_0 d4_3 d18_2 d18_3 d18_4 d18_5), (rx_6 (-1) (-1) 0 (-1) 0 0))) :
    wpX_issue post (3, f0_at, f0_state, f0_count, f0_guessBits, 1, 1, 0, 1, (rx_6 2 5 4 0 0 0), (rx_6 18 14 12 0 0 0), (rx_6 0 0 0 0 0 0), (rx_6 d4_0 d4_1 d4_2 d4_3 d4_4 d4_5), a5, (rx_6 2 0 0 0 0 0), (rx_6 0 0 0 0 0 0), (rx_6 1 0 0 0 0 0), a9, (rx_6 d10_0 d10_1 d10_2 d10_3 d10_4 d10_5), a11, (rx_6 0 0 0 0 0 0), a13, a14, (rx_6 (-1) 0 0 0 0 0), (rx_6 (-1) 0 0 0 0 0), (rx_6 d17_0 d17_1 d17_2 d17_3 d17_4 d17_5), (rx_6 d18_0 d18_1 d18_2 d18_3 d18_4 d18_5), (rx_6 (-1) (-1) 0 (-1) 0 0)) := by
  refine br_f (by decide +kernel) ?_
  refine br_f (by decide +kernel) ?_
  refine ⟨(by decide +kernel), ?_⟩
  refine nm_r (e' := (1 : Int32)) (by decide +kernel) ?_
  refine br_f (by decide +kernel) ?_
  refine br_f (by decide +kernel) ?_
  refine br_f (by decide +kernel) ?_
  refine ⟨rx_in16_1, ?_⟩
  refine ⟨rx_in6_1, ?_⟩
  refine nm_r (e' := (rx_6 2 5 0 0 0 0)) (rx_u1 rfl (by decide +kernel)) ?_
  refine ⟨rx_in6_1, ?_⟩
  refine nm_r (e' := (rx_6 0 1 0 0 0 0)) (rx_u1 rfl rfl) ?_
  refine ⟨rx_in6_1, ?_⟩
  refine nm_r (e' := (rx_6 1 0 0 0 0 0)) (rx_u1 rfl rfl) ?_
  refine ⟨rx_in6_1, ?_⟩
  refine nm_r (e' := (rx_6 0 0 0 0 0 0)) (rx_u1 rfl rfl) ?_
  refine ⟨rx_in6_1, ?_⟩
  refine nm_r (e' := (rx_6 (-1) (-1) 0 0 0 0)) (rx_u1 rfl rfl) ?_
  refine ⟨rx_in6_1, ?_⟩
  refine nm_r (e' := (rx_6 (-1) (-1) 0 0 0 0)) (rx_u1 rfl rfl) ?_
  refine nm_r (e' := (2 : Int32)) (by decide +kernel) ?_
  refine br_f (by decide +kernel) ?_
  refine ⟨rx_in16_1, ?_⟩
  refine nm_r (e' := (2 : Int32)) (by decide +kernel) ?_
  refine nm_r (e' := (3 : Int32)) (by decide +kernel) ?_
  refine nm_r (e' := (0 : Int32)) (by decide +kernel) ?_
  refine br_f (by decide +kernel) ?_
  refine br_t (by decide +kernel) ?_
  refine br_t (by decide +kernel) ?_
  refine ⟨rx_in4_2, ?_⟩
  refine nm_r (e' := (0 : Int32)) (by decide +kernel) ?_
  refine br_f (by decide +kernel) ?_
  refine ⟨rx_in6_0, ?_⟩
  refine br_f (by decide +kernel) ?_
  refine br_f (by decide +kernel) ?_
  refine ⟨rx_in6_1, ?_⟩
  refine nm_r (e' := (rx_6 (-1) 0 0 0 0 0)) (rx_u1 rfl (by decide +kernel)) ?_
  refine br_t (by decide +kernel) ?_
  refine ⟨rx_in6_0, ?_⟩
  refine ⟨rx_in6_1, ?_⟩
  refine nm_r (e' := (rx_6 d17_0 d10_0 d17_2 d17_3 d17_4 d17_5)) (rx_u1 rfl (rx_g0 rfl)) ?_
  refine ⟨rx_in4_3, ?_⟩
  refine nm_r (e' := ((-1) : Int32)) (by decide +kernel) ?_
  refine br_t (by decide +kernel) ?_
  refine br_t (by decide +kernel) ?_
  refine ⟨rx_in6_1, ?_⟩
  refine nm_r (e' := (rx_6 (-1) (-1) 0 0 0 0)) (rx_u1 rfl (by decide +kernel)) ?_
  refine br_f (by decide +kernel) ?_
  refine ⟨rx_in4_3, ?_⟩
  refine ⟨rx_in6_1, ?_⟩
  refine nm_r (e' := (rx_6 d18_0 d4_3 d18_2 d18_3 d18_4 d18_5)) (rx_u1 rfl (rx_g3 rfl)) ?_
  refine br_t (by decide +kernel) ?_
  refine ⟨rx_in16_1, ?_⟩
  refine ⟨rx_in6_1, ?_⟩
  refine nm_r (e' := (2 : Int32)) (by decide +kernel) ?_
  refine br_f (by decide +kernel) ?_
  refine br_t (by decide +kernel) ?_
  refine br_f (by decide +kernel) ?_
  refine br_f (by decide +kernel) ?_
  refine br_f (by decide +kernel) ?_
  exact hp
theorem rx_iss_10 {post : St2 → Prop} {f0_at f0_state f0_count f0_guessBits d4_0 d4_1 d4_2 d4_3 d4_4 d4_5 d17_0 d17_1 d17_2 d17_3 d17_4 d17_5 : Int32} {a5 a9 a10 a11 a13 a18 : Nat → Int32} (hp : post (3, f0_at, f0_state, f0_count, f0_guessBits, 3, 1, 0, 3, (rx_6 2 5 4 0 0 0), (rx_6 18 14 12 0 0 0), (rx_6 0 0 0 0 0 0), (rx_6 d4_0 d4_1 d4_2 d4_3 d4_4 d4_5), a5, (rx_6 2 5 4 0 0 0), (rx_6 0 1 2 0 0 0), (rx_6 1 0 0 0 0 0), a9, a10, a11, (rx_6 0 0 0 0 0 0), a13, (rx_6 2 0 0 0 0 0), (rx_6 (-1) 0 (-1) 0 0 0), (rx_6 (-1) (-1) (-1) 0 0 0), (rx_6 d17_0 d17_1 d4_3 d17_3 d17_4 d17_5), a18, (rx_6 2 (-1) 0 (-1) 0 0))) :
    wpX_issue post (3, f0_at, f0_state, f0_count, f0_guessBits, 2, 1, 0, 2, (rx_6 2 5 4 0 0 0), (rx_6 18 14 12 0 0 0), (rx_6 0 0 0 0 0 0), (rx_6 d4_0 d4_1 d4_2 d4_3 d4_4 d4_5), a5, (rx_6 2 5 0 0 0 0), (rx_6 0 1 0 0 0 0), (rx_6 1 0 0 0 0 0), a9, a10, a11, (rx_6 0 0 0 0 0 0), a13, (rx_6 2 0 0 0 0 0), (rx_6 (-1) 0 0 0 0 0), (rx_6 (-1) (-1) 0 0 0 0), (rx_6 d17_0 d17_1 d17_2 d17_3 d17_4 d17_5), a18, (rx_6 (-1) (-1) 0 (-1) 0 0)) := by
  refine br_f (by decide +kernel) ?_
  refine br_f (by decide +kernel) ?_
  refine ⟨(by decide +kernel), ?_⟩
  refine nm_r (e' := (2 : Int32)) (by decide +kernel) ?_
  refine br_f (by decide +kernel) ?_
  refine br_f (by decide +kernel) ?_
  refine br_f (by decide +kernel) ?_
  refine ⟨rx_in16_2, ?_⟩
  refine ⟨rx_in6_2, ?_⟩
  refine nm_r (e' := (rx_6 2 5 4 0 0 0)) (rx_u2 rfl (by decide +kernel)) ?_
  refine ⟨rx_in6_2, ?_⟩
  refine nm_r (e' := (rx_6 0 1 2 0 0 0)) (rx_u2 rfl rfl) ?_
  refine ⟨rx_in6_2, ?_⟩
  refine nm_r (e' := (rx_6 1 0 0 0 0 0)) (rx_u2 rfl rfl) ?_
  refine ⟨rx_in6_2, ?_⟩
  refine nm_r (e' := (rx_6 0 0 0 0 0 0)) (rx_u2 rfl rfl) ?_
  refine ⟨rx_in6_2, ?_⟩
  refine nm_r (e' := (rx_6 (-1) 0 (-1) 0 0 0)) (rx_u2 rfl rfl) ?_
  refine ⟨rx_in6_2, ?_⟩
  refine nm_r (e' := (rx_6 (-1) (-1) (-1) 0 0 0)) (rx_u2 rfl rfl) ?_
  refine nm_r (e' := (3 : Int32)) (by decide +kernel) ?_
  refine br_f (by decide +kernel) ?_
  refine ⟨rx_in16_2, ?_⟩
  refine nm_r (e' := (0 : Int32)) (by decide +kernel) ?_
  refine nm_r (e' := (3 : Int32)) (by decide +kernel) ?_
  refine nm_r (e' := (0 : Int32)) (by decide +kernel) ?_
  refine br_f (by decide +kernel) ?_
  refine br_f (by decide +kernel) ?_
  refine ⟨rx_in4_3, ?_⟩
  refine nm_r (e' := ((-1) : Int32)) (by decide +kernel) ?_
  refine br_t (by decide +kernel) ?_
  refine br_t (by decide +kernel) ?_
  refine ⟨rx_in6_2, ?_⟩
  refine nm_r (e' := (rx_6 (-1) 0 (-1) 0 0 0)) (rx_u2 rfl (by decide +kernel)) ?_
  refine br_f (by decide +kernel) ?_
  refine ⟨rx_in4_3, ?_⟩
  refine ⟨rx_in6_2, ?_⟩
  refine nm_r (e' := (rx_6 d17_0 d17_1 d4_3 d17_3 d17_4 d17_5)) (rx_u2 rfl (rx_g3 rfl)) ?_
  refine br_t (by decide +kernel) ?_
  refine br_f (by decide +kernel) ?_
  refine ⟨rx_in6_2, ?_⟩
  refine nm_r (e' := (rx_6 2 0 0 0 0 0)) (rx_u2 rfl (by decide +kernel)) ?_
  refine ⟨rx_in4_0, ?_⟩
  refine nm_r (e' := (rx_6 2 (-1) 0 (-1) 0 0)) (rx_u0 rfl (by decide +kernel)) ?_
  refine ⟨rx_in16_2, ?_⟩
  refine ⟨rx_in6_2, ?_⟩
  refine nm_r (e' := (3 : Int32)) (by decide +kernel) ?_
  refine br_f (by decide +kernel) ?_
  refine br_t (by decide +kernel) ?_
  refine br_f (by decide +kernel) ?_
  refine br_f (by decide +kernel) ?_
  refine br_f (by decide +kernel) ?_
  exact hp
theorem rx_iss_11 {post : St2 → Prop} {f0_at f0_state f0_count f0_guessBits : Int32} {a1 a2 a3 a4 a5 a9 a10 a11 a13 a14 a17 a18 a19 : Nat → Int32} (hp : post (3, f0_at, f0_state, f0_count, f0_guessBits, 3, 0, 0, 4, a1, a2, a3, a4, a5, (rx_6 2 5 4 9 0 0), (rx_6 0 1 2 3 0 0), (rx_6 1 0 0 0 0 0), a9, a10, a11, (rx_6 0 0 0 0 0 0), a13, a14, (rx_6 (-1) 0 (-1) (-1) 0 0), (rx_6 (-1) (-1) (-1) (-1) 0 0), a17, a18, a19)) :
    wpX_issue post (3, f0_at, f0_state, f0_count, f0_guessBits, 3, 1, 0, 3, a1, a2, a3, a4, a5, (rx_6 2 5 4 0 0 0), (rx_6 0 1 2 0 0 0), (rx_6 1 0 0 0 0 0), a9, a10, a11, (rx_6 0 0 0 0 0 0), a13, a14, (rx_6 (-1) 0 (-1) 0 0 0), (rx_6 (-1) (-1) (-1) 0 0 0), a17, a18, a19) := by
  refine br_f (by decide +kernel) ?_
  refine br_f (by decide +kernel) ?_
  refine ⟨(by decide +kernel), ?_⟩
  refine nm_r (e' := (3 : Int32)) (by decide +kernel) ?_
  refine br_f (by decide +kernel) ?_
  refine br_t (by decide +kernel) ?_
  refine br_t (by decide +kernel) ?_
  refine ⟨rx_in6_3, ?_⟩
  refine nm_r (e' := (rx_6 2 5 4 9 0 0)) (rx_u3 rfl (by decide +kernel)) ?_
  refine ⟨rx_in6_3, ?_⟩
  refine nm_r (e' := (rx_6 0 1 2 3 0 0)) (rx_u3 rfl rfl) ?_
  refine ⟨rx_in6_3, ?_⟩
  refine nm_r (e' := (rx_6 1 0 0 0 0 0)) (rx_u3 rfl rfl) ?_
  refine ⟨rx_in6_3, ?_⟩
  refine nm_r (e' := (rx_6 0 0 0 0 0 0)) (rx_u3 rfl rfl) ?_
  refine ⟨rx_in6_3, ?_⟩
  refine nm_r (e' := (rx_6 (-1) 0 (-1) (-1) 0 0)) (rx_u3 rfl rfl) ?_
  refine ⟨rx_in6_3, ?_⟩
  refine nm_r (e' := (rx_6 (-1) (-1) (-1) (-1) 0 0)) (rx_u3 rfl rfl) ?_
  refine nm_r (e' := (4 : Int32)) (by decide +kernel) ?_
  refine br_t (by decide +kernel) ?_
  exact hp
theorem rx_iss_12 {post : St2 → Prop} {f0_size f0_at f0_state f0_count f0_guessBits f0_fetchAt f0_first : Int32} {a1 a2 a3 a4 a5 a6 a7 a8 a9 a10 a11 a12 a13 a14 a15 a16 a17 a18 a19 : Nat → Int32} (hp : post (f0_size, f0_at, f0_state, f0_count, f0_guessBits, f0_fetchAt, 0, f0_first, 4, a1, a2, a3, a4, a5, a6, a7, a8, a9, a10, a11, a12, a13, a14, a15, a16, a17, a18, a19)) :
    wpX_issue post (f0_size, f0_at, f0_state, f0_count, f0_guessBits, f0_fetchAt, 0, f0_first, 4, a1, a2, a3, a4, a5, a6, a7, a8, a9, a10, a11, a12, a13, a14, a15, a16, a17, a18, a19) := by
  refine br_f (by decide +kernel) ?_
  refine br_t (by decide +kernel) ?_
  exact hp
theorem rx_iss_13 {post : St2 → Prop} {f0_size f0_at f0_state f0_count f0_guessBits f0_fetchAt f0_first : Int32} {a1 a2 a3 a4 a5 a6 a7 a8 a9 a10 a11 a12 a13 a14 a15 a16 a17 a18 a19 : Nat → Int32} (hp : post (f0_size, f0_at, f0_state, f0_count, f0_guessBits, f0_fetchAt, 0, f0_first, 3, a1, a2, a3, a4, a5, a6, a7, a8, a9, a10, a11, a12, a13, a14, a15, a16, a17, a18, a19)) :
    wpX_issue post (f0_size, f0_at, f0_state, f0_count, f0_guessBits, f0_fetchAt, 0, f0_first, 3, a1, a2, a3, a4, a5, a6, a7, a8, a9, a10, a11, a12, a13, a14, a15, a16, a17, a18, a19) := by
  refine br_f (by decide +kernel) ?_
  refine br_t (by decide +kernel) ?_
  exact hp
theorem rx_iss_14 {post : St2 → Prop} {f0_at f0_state f0_count f0_guessBits d4_0 d4_1 d4_2 d4_3 d4_4 d4_5 d17_0 d17_1 d17_2 d17_3 d17_4 d17_5 d18_0 d18_1 d18_2 d18_3 d18_4 d18_5 : Int32} {a5 a9 a10 a11 a13 : Nat → Int32} (hp : post (3, f0_at, f0_state, f0_count, f0_guessBits, 1, 1, 0, 1, (rx_6 3 5 4 0 0 0), (rx_6 18 14 12 0 0 0), (rx_6 0 0 0 0 0 0), (rx_6 d4_0 d4_1 d4_2 d4_3 d4_4 d4_5), a5, (rx_6 3 0 0 0 0 0), (rx_6 0 0 0 0 0 0), (rx_6 0 0 0 0 0 0), a9, a10, a11, (rx_6 0 0 0 0 0 0), a13, (rx_6 2 0 0 0 0 0), (rx_6 (-1) 0 0 0 0 0), (rx_6 (-1) 0 0 0 0 0), (rx_6 d4_0 d17_1 d17_2 d17_3 d17_4 d17_5), (rx_6 d4_1 d18_1 d18_2 d18_3 d18_4 d18_5), (rx_6 (-1) (-1) 0 (-1) 0 0))) :
    wpX_issue post (3, f0_at, f0_state, f0_count, f0_guessBits, 0, 1, 0, 0, (rx_6 3 5 4 0 0 0), (rx_6 18 14 12 0 0 0), (rx_6 0 0 0 0 0 0), (rx_6 d4_0 d4_1 d4_2 d4_3 d4_4 d4_5), a5, (rx_6 0 0 0 0 0 0), (rx_6 0 0 0 0 0 0), (rx_6 0 0 0 0 0 0), a9, a10, a11, (rx_6 0 0 0 0 0 0), a13, (rx_6 0 0 0 0 0 0), (rx_6 0 0 0 0 0 0), (rx_6 0 0 0 0 0 0), (rx_6 d17_0 d17_1 d17_2 d17_3 d17_4 d17_5), (rx_6 d18_0 d18_1 d18_2 d18_3 d18_4 d18_5), (rx_6 (-1) (-1) (-1) (-1) 0 0)) := by
  refine br_f (by decide +kernel) ?_
  refine br_f (by decide +kernel) ?_
  refine ⟨(by decide +kernel), ?_⟩
  refine nm_r (e' := (0 : Int32)) (by decide +kernel) ?_
  refine br_f (by decide +kernel) ?_
  refine br_f (by decide +kernel) ?_
  refine br_f (by decide +kernel) ?_
  refine ⟨rx_in16_0, ?_⟩
  refine ⟨rx_in6_0, ?_⟩
  refine nm_r (e' := (rx_6 3 0 0 0 0 0)) (rx_u0 rfl (by decide +kernel)) ?_
  refine ⟨rx_in6_0, ?_⟩
  refine nm_r (e' := (rx_6 0 0 0 0 0 0)) (rx_u0 rfl rfl) ?_
  refine ⟨rx_in6_0, ?_⟩
  refine nm_r (e' := (rx_6 0 0 0 0 0 0)) (rx_u0 rfl rfl) ?_
  refine ⟨rx_in6_0, ?_⟩
  refine nm_r (e' := (rx_6 0 0 0 0 0 0)) (rx_u0 rfl rfl) ?_
  refine ⟨rx_in6_0, ?_⟩
  refine nm_r (e' := (rx_6 (-1) 0 0 0 0 0)) (rx_u0 rfl rfl) ?_
  refine ⟨rx_in6_0, ?_⟩
  refine nm_r (e' := (rx_6 (-1) 0 0 0 0 0)) (rx_u0 rfl rfl) ?_
  refine nm_r (e' := (1 : Int32)) (by decide +kernel) ?_
  refine br_f (by decide +kernel) ?_
  refine ⟨rx_in16_0, ?_⟩
  refine nm_r (e' := (2 : Int32)) (by decide +kernel) ?_
  refine nm_r (e' := (0 : Int32)) (by decide +kernel) ?_
  refine nm_r (e' := (1 : Int32)) (by decide +kernel) ?_
  refine br_f (by decide +kernel) ?_
  refine br_f (by decide +kernel) ?_
  refine ⟨rx_in4_0, ?_⟩
  refine nm_r (e' := ((-1) : Int32)) (by decide +kernel) ?_
  refine br_t (by decide +kernel) ?_
  refine br_t (by decide +kernel) ?_
  refine ⟨rx_in6_0, ?_⟩
  refine nm_r (e' := (rx_6 (-1) 0 0 0 0 0)) (rx_u0 rfl (by decide +kernel)) ?_
  refine br_f (by decide +kernel) ?_
  refine ⟨rx_in4_0, ?_⟩
  refine ⟨rx_in6_0, ?_⟩
  refine nm_r (e' := (rx_6 d4_0 d17_1 d17_2 d17_3 d17_4 d17_5)) (rx_u0 rfl (rx_g0 rfl)) ?_
  refine br_f (by decide +kernel) ?_
  refine ⟨rx_in4_1, ?_⟩
  refine nm_r (e' := ((-1) : Int32)) (by decide +kernel) ?_
  refine br_t (by decide +kernel) ?_
  refine br_t (by decide +kernel) ?_
  refine ⟨rx_in6_0, ?_⟩
  refine nm_r (e' := (rx_6 (-1) 0 0 0 0 0)) (rx_u0 rfl (by decide +kernel)) ?_
  refine br_f (by decide +kernel) ?_
  refine ⟨rx_in4_1, ?_⟩
  refine ⟨rx_in6_0, ?_⟩
  refine nm_r (e' := (rx_6 d4_1 d18_1 d18_2 d18_3 d18_4 d18_5)) (rx_u0 rfl (rx_g1 rfl)) ?_
  refine br_f (by decide +kernel) ?_
  refine ⟨rx_in6_0, ?_⟩
  refine nm_r (e' := (rx_6 2 0 0 0 0 0)) (rx_u0 rfl (by decide +kernel)) ?_
  refine ⟨rx_in4_2, ?_⟩
  refine nm_r (e' := (rx_6 (-1) (-1) 0 (-1) 0 0)) (rx_u2 rfl (by decide +kernel)) ?_
  refine ⟨rx_in16_0, ?_⟩
  refine ⟨rx_in6_0, ?_⟩
  refine nm_r (e' := (1 : Int32)) (by decide +kernel) ?_
  refine br_f (by decide +kernel) ?_
  refine br_t (by decide +kernel) ?_
  refine br_f (by decide +kernel) ?_
  refine br_f (by decide +kernel) ?_
  refine br_f (by decide +kernel) ?_
  exact hp
theorem rx_iss_15 {post : St2 → Prop} {f0_at f0_state f0_count f0_guessBits d4_0 d4_1 d4_2 d4_3 d4_4 d4_5 d10_0 d10_1 d10_2 d10_3 d10_4 d10_5 d17_0 d17_1 d17_2 d17_3 d17_4 d17_5 d18_0 d18_1 d18_2 d18_3 d18_4 d18_5 : Int32} {a5 a9 a11 a13 a14 : Nat → Int32} (hp : post (3, f0_at, f0_state, f0_count, f0_guessBits, 2, 1, 0, 2, (rx_6 3 5 4 0 0 0), (rx_6 18 14 12 0 0 0), (rx_6 0 0 0 0 0 0), (rx_6 d4_0 d4_1 d4_2 d4_3 d4_4 d4_5), a5, (rx_6 3 5 0 0 0 0), (rx_6 0 1 0 0 0 0), (rx_6 1 0 0 0 0 0), a9, (rx_6 d10_0 d10_1 d10_2 d10_3 d10_4 d10_5), a11, (rx_6 0 0 0 0 0 0), a13, a14, (rx_6 (-1) 0 0 0 0 0), (rx_6 (-1) (-1) 0 0 0 0), (rx_6 d17_0 d10_0 d17_2 d17_3 d17_4 d17_5), (rx_6 d18_0 d4_3 d18_2 d18_3 d18_4 d18_5), (rx_6 (-1) (-1) 0 (-1) 0 0))) :
    wpX_issue post (3, f0_at, f0_state, f0_count, f0_guessBits, 1, 1, 0, 1, (rx_6 3 5 4 0 0 0), (rx_6 18 14 12 0 0 0), (rx_6 0 0 0 0 0 0), (rx_6 d4_0 d4_1 d4_2 d4_3 d4_4 d4_5), a5, (rx_6 3 0 0 0 0 0), (rx_6 0 0 0 0 0 0), (rx_6 1 0 0 0 0 0), a9, (rx_6 d10_0 d10_1 d10_2 d10_3 d10_4 d10_5), a11, (rx_6 0 0 0 0 0 0), a13, a14, (rx_6 (-1) 0 0 0 0 0), (rx_6 (-1) 0 0 0 0 0), (rx_6 d17_0 d17_1 d17_2 d17_3 d17_4 d17_5), (rx_6 d18_0 d18_1 d18_2 d18_3 d18_4 d18_5), (rx_6 (-1) (-1) 0 (-1) 0 0)) := by
  refine br_f (by decide +kernel) ?_
  refine br_f (by decide +kernel) ?_
  refine ⟨(by decide +kernel), ?_⟩
  refine nm_r (e' := (1 : Int32)) (by decide +kernel) ?_
  refine br_f (by decide +kernel) ?_
  refine br_f (by decide +kernel) ?_
  refine br_f (by decide +kernel) ?_
  refine ⟨rx_in16_1, ?_⟩
  refine ⟨rx_in6_1, ?_⟩
  refine nm_r (e' := (rx_6 3 5 0 0 0 0)) (rx_u1 rfl (by decide +kernel)) ?_
  refine ⟨rx_in6_1, ?_⟩
  refine nm_r (e' := (rx_6 0 1 0 0 0 0)) (rx_u1 rfl rfl) ?_
  refine ⟨rx_in6_1, ?_⟩
  refine nm_r (e' := (rx_6 1 0 0 0 0 0)) (rx_u1 rfl rfl) ?_
  refine ⟨rx_in6_1, ?_⟩
  refine nm_r (e' := (rx_6 0 0 0 0 0 0)) (rx_u1 rfl rfl) ?_
  refine ⟨rx_in6_1, ?_⟩
  refine nm_r (e' := (rx_6 (-1) (-1) 0 0 0 0)) (rx_u1 rfl rfl) ?_
  refine ⟨rx_in6_1, ?_⟩
  refine nm_r (e' := (rx_6 (-1) (-1) 0 0 0 0)) (rx_u1 rfl rfl) ?_
  refine nm_r (e' := (2 : Int32)) (by decide +kernel) ?_
  refine br_f (by decide +kernel) ?_
  refine ⟨rx_in16_1, ?_⟩
  refine nm_r (e' := (2 : Int32)) (by decide +kernel) ?_
  refine nm_r (e' := (3 : Int32)) (by decide +kernel) ?_
  refine nm_r (e' := (0 : Int32)) (by decide +kernel) ?_
  refine br_f (by decide +kernel) ?_
  refine br_t (by decide +kernel) ?_
  refine br_t (by decide +kernel) ?_
  refine ⟨rx_in4_2, ?_⟩
  refine nm_r (e' := (0 : Int32)) (by decide +kernel) ?_
  refine br_f (by decide +kernel) ?_
  refine ⟨rx_in6_0, ?_⟩
  refine br_f (by decide +kernel) ?_
  refine br_f (by decide +kernel) ?_
  refine ⟨rx_in6_1, ?_⟩
  refine nm_r (e' := (rx_6 (-1) 0 0 0 0 0)) (rx_u1 rfl (by decide +kernel)) ?_
  refine br_t (by decide +kernel) ?_
  refine ⟨rx_in6_0, ?_⟩
  refine ⟨rx_in6_1, ?_⟩
  refine nm_r (e' := (rx_6 d17_0 d10_0 d17_2 d17_3 d17_4 d17_5)) (rx_u1 rfl (rx_g0 rfl)) ?_
  refine ⟨rx_in4_3, ?_⟩
  refine nm_r (e' := ((-1) : Int32)) (by decide +kernel) ?_
  refine br_t (by decide +kernel) ?_
  refine br_t (by decide +kernel) ?_
  refine ⟨rx_in6_1, ?_⟩
  refine nm_r (e' := (rx_6 (-1) (-1) 0 0 0 0)) (rx_u1 rfl (by decide +kernel)) ?_
  refine br_f (by decide +kernel) ?_
  refine ⟨rx_in4_3, ?_⟩
  refine ⟨rx_in6_1, ?_⟩
  refine nm_r (e' := (rx_6 d18_0 d4_3 d18_2 d18_3 d18_4 d18_5)) (rx_u1 rfl (rx_g3 rfl)) ?_
  refine br_t (by decide +kernel) ?_
  refine ⟨rx_in16_1, ?_⟩
  refine ⟨rx_in6_1, ?_⟩
  refine nm_r (e' := (2 : Int32)) (by decide +kernel) ?_
  refine br_f (by decide +kernel) ?_
  refine br_t (by decide +kernel) ?_
  refine br_f (by decide +kernel) ?_
  refine br_f (by decide +kernel) ?_
  refine br_f (by decide +kernel) ?_
  exact hp
theorem rx_iss_16 {post : St2 → Prop} {f0_at f0_state f0_count f0_guessBits d4_0 d4_1 d4_2 d4_3 d4_4 d4_5 d17_0 d17_1 d17_2 d17_3 d17_4 d17_5 : Int32} {a5 a9 a10 a11 a13 a18 : Nat → Int32} (hp : post (3, f0_at, f0_state, f0_count, f0_guessBits, 3, 1, 0, 3, (rx_6 3 5 4 0 0 0), (rx_6 18 14 12 0 0 0), (rx_6 0 0 0 0 0 0), (rx_6 d4_0 d4_1 d4_2 d4_3 d4_4 d4_5), a5, (rx_6 3 5 4 0 0 0), (rx_6 0 1 2 0 0 0), (rx_6 1 0 0 0 0 0), a9, a10, a11, (rx_6 0 0 0 0 0 0), a13, (rx_6 2 0 0 0 0 0), (rx_6 (-1) 0 (-1) 0 0 0), (rx_6 (-1) (-1) (-1) 0 0 0), (rx_6 d17_0 d17_1 d4_3 d17_3 d17_4 d17_5), a18, (rx_6 2 (-1) 0 (-1) 0 0))) :
    wpX_issue post (3, f0_at, f0_state, f0_count, f0_guessBits, 2, 1, 0, 2, (rx_6 3 5 4 0 0 0), (rx_6 18 14 12 0 0 0), (rx_6 0 0 0 0 0 0), (rx_6 d4_0 d4_1 d4_2 d4_3 d4_4 d4_5), a5, (rx_6 3 5 0 0 0 0), (rx_6 0 1 0 0 0 0), (rx_6 1 0 0 0 0 0), a9, a10, a11, (rx_6 0 0 0 0 0 0), a13, (rx_6 2 0 0 0 0 0), (rx_6 (-1) 0 0 0 0 0), (rx_6 (-1) (-1) 0 0 0 0), (rx_6 d17_0 d17_1 d17_2 d17_3 d17_4 d17_5), a18, (rx_6 (-1) (-1) 0 (-1) 0 0)) := by
  refine br_f (by decide +kernel) ?_
  refine br_f (by decide +kernel) ?_
  refine ⟨(by decide +kernel), ?_⟩
  refine nm_r (e' := (2 : Int32)) (by decide +kernel) ?_
  refine br_f (by decide +kernel) ?_
  refine br_f (by decide +kernel) ?_
  refine br_f (by decide +kernel) ?_
  refine ⟨rx_in16_2, ?_⟩
  refine ⟨rx_in6_2, ?_⟩
  refine nm_r (e' := (rx_6 3 5 4 0 0 0)) (rx_u2 rfl (by decide +kernel)) ?_
  refine ⟨rx_in6_2, ?_⟩
  refine nm_r (e' := (rx_6 0 1 2 0 0 0)) (rx_u2 rfl rfl) ?_
  refine ⟨rx_in6_2, ?_⟩
  refine nm_r (e' := (rx_6 1 0 0 0 0 0)) (rx_u2 rfl rfl) ?_
  refine ⟨rx_in6_2, ?_⟩
  refine nm_r (e' := (rx_6 0 0 0 0 0 0)) (rx_u2 rfl rfl) ?_
  refine ⟨rx_in6_2, ?_⟩
  refine nm_r (e' := (rx_6 (-1) 0 (-1) 0 0 0)) (rx_u2 rfl rfl) ?_
  refine ⟨rx_in6_2, ?_⟩
  refine nm_r (e' := (rx_6 (-1) (-1) (-1) 0 0 0)) (rx_u2 rfl rfl) ?_
  refine nm_r (e' := (3 : Int32)) (by decide +kernel) ?_
  refine br_f (by decide +kernel) ?_
  refine ⟨rx_in16_2, ?_⟩
  refine nm_r (e' := (0 : Int32)) (by decide +kernel) ?_
  refine nm_r (e' := (3 : Int32)) (by decide +kernel) ?_
  refine nm_r (e' := (0 : Int32)) (by decide +kernel) ?_
  refine br_f (by decide +kernel) ?_
  refine br_f (by decide +kernel) ?_
  refine ⟨rx_in4_3, ?_⟩
  refine nm_r (e' := ((-1) : Int32)) (by decide +kernel) ?_
  refine br_t (by decide +kernel) ?_
  refine br_t (by decide +kernel) ?_
  refine ⟨rx_in6_2, ?_⟩
  refine nm_r (e' := (rx_6 (-1) 0 (-1) 0 0 0)) (rx_u2 rfl (by decide +kernel)) ?_
  refine br_f (by decide +kernel) ?_
  refine ⟨rx_in4_3, ?_⟩
  refine ⟨rx_in6_2, ?_⟩
  refine nm_r (e' := (rx_6 d17_0 d17_1 d4_3 d17_3 d17_4 d17_5)) (rx_u2 rfl (rx_g3 rfl)) ?_
  refine br_t (by decide +kernel) ?_
  refine br_f (by decide +kernel) ?_
  refine ⟨rx_in6_2, ?_⟩
  refine nm_r (e' := (rx_6 2 0 0 0 0 0)) (rx_u2 rfl (by decide +kernel)) ?_
  refine ⟨rx_in4_0, ?_⟩
  refine nm_r (e' := (rx_6 2 (-1) 0 (-1) 0 0)) (rx_u0 rfl (by decide +kernel)) ?_
  refine ⟨rx_in16_2, ?_⟩
  refine ⟨rx_in6_2, ?_⟩
  refine nm_r (e' := (3 : Int32)) (by decide +kernel) ?_
  refine br_f (by decide +kernel) ?_
  refine br_t (by decide +kernel) ?_
  refine br_f (by decide +kernel) ?_
  refine br_f (by decide +kernel) ?_
  refine br_f (by decide +kernel) ?_
  exact hp
theorem rx_iss_17 {post : St2 → Prop} {f0_at f0_state f0_count f0_guessBits : Int32} {a1 a2 a3 a4 a5 a9 a10 a11 a13 a14 a17 a18 a19 : Nat → Int32} (hp : post (3, f0_at, f0_state, f0_count, f0_guessBits, 3, 0, 0, 4, a1, a2, a3, a4, a5, (rx_6 3 5 4 9 0 0), (rx_6 0 1 2 3 0 0), (rx_6 1 0 0 0 0 0), a9, a10, a11, (rx_6 0 0 0 0 0 0), a13, a14, (rx_6 (-1) 0 (-1) (-1) 0 0), (rx_6 (-1) (-1) (-1) (-1) 0 0), a17, a18, a19)) :
    wpX_issue post (3, f0_at, f0_state, f0_count, f0_guessBits, 3, 1, 0, 3, a1, a2, a3, a4, a5, (rx_6 3 5 4 0 0 0), (rx_6 0 1 2 0 0 0), (rx_6 1 0 0 0 0 0), a9, a10, a11, (rx_6 0 0 0 0 0 0), a13, a14, (rx_6 (-1) 0 (-1) 0 0 0), (rx_6 (-1) (-1) (-1) 0 0 0), a17, a18, a19) := by
  refine br_f (by decide +kernel) ?_
  refine br_f (by decide +kernel) ?_
  refine ⟨(by decide +kernel), ?_⟩
  refine nm_r (e' := (3 : Int32)) (by decide +kernel) ?_
  refine br_f (by decide +kernel) ?_
  refine br_t (by decide +kernel) ?_
  refine br_t (by decide +kernel) ?_
  refine ⟨rx_in6_3, ?_⟩
  refine nm_r (e' := (rx_6 3 5 4 9 0 0)) (rx_u3 rfl (by decide +kernel)) ?_
  refine ⟨rx_in6_3, ?_⟩
  refine nm_r (e' := (rx_6 0 1 2 3 0 0)) (rx_u3 rfl rfl) ?_
  refine ⟨rx_in6_3, ?_⟩
  refine nm_r (e' := (rx_6 1 0 0 0 0 0)) (rx_u3 rfl rfl) ?_
  refine ⟨rx_in6_3, ?_⟩
  refine nm_r (e' := (rx_6 0 0 0 0 0 0)) (rx_u3 rfl rfl) ?_
  refine ⟨rx_in6_3, ?_⟩
  refine nm_r (e' := (rx_6 (-1) 0 (-1) (-1) 0 0)) (rx_u3 rfl rfl) ?_
  refine ⟨rx_in6_3, ?_⟩
  refine nm_r (e' := (rx_6 (-1) (-1) (-1) (-1) 0 0)) (rx_u3 rfl rfl) ?_
  refine nm_r (e' := (4 : Int32)) (by decide +kernel) ?_
  refine br_t (by decide +kernel) ?_
  exact hp
end
section
theorem rx_cy1 {post : Int32 → St2 → Prop} {n : Nat} {x y z kd : Int32} {c : Nat → Int32}
    (hp : wX_finish_28 post 9 n 0 1 3 0 1 0 kd 1 1 0 1 (rx_6 1 5 4 0 0 0) (rx_6 18 14 12 0 0 0) (rx_6 0 0 0 0 0 0) (rx_6 x y 0 z 0 0) c (rx_6 1 0 0 0 0 0) (rx_6 0 0 0 0 0 0) (rx_6 0 0 0 0 0 0) (rx_6 0 0 0 0 0 0) (rx_6 0 0 0 0 0 0) (rx_6 0 0 0 0 0 0) (rx_6 0 0 0 0 0 0) (rx_6 0 0 0 0 0 0) (rx_6 2 0 0 0 0 0) (rx_6 (-1) 0 0 0 0 0) (rx_6 (-1) 0 0 0 0 0) (rx_6 x 0 0 0 0 0) (rx_6 y 0 0 0 0 0) (rx_6 (-1) (-1) 0 (-1) 0 0)) :
    wX_finish_28 post 9 (n + 1) 0 0 3 0 1 0 kd 0 1 0 0 (rx_6 1 5 4 0 0 0) (rx_6 18 14 12 0 0 0) (rx_6 0 0 0 0 0 0) (rx_6 x y 0 z 0 0) c (rx_6 0 0 0 0 0 0) (rx_6 0 0 0 0 0 0) (rx_6 0 0 0 0 0 0) (rx_6 0 0 0 0 0 0) (rx_6 0 0 0 0 0 0) (rx_6 0 0 0 0 0 0) (rx_6 0 0 0 0 0 0) (rx_6 0 0 0 0 0 0) (rx_6 0 0 0 0 0 0) (rx_6 0 0 0 0 0 0) (rx_6 0 0 0 0 0 0) (rx_6 0 0 0 0 0 0) (rx_6 0 0 0 0 0 0) (rx_6 (-1) (-1) (-1) (-1) 0 0) := by
  refine br_f (by decide +kernel) ?_
  refine br_f (by decide +kernel) ?_
  refine br_t (by decide +kernel) ?_
  refine rx_ret_1 ?_
  refine nm_r (e' := (0 : Int32)) (by decide +kernel) ?_
  refine br_f (by decide +kernel) ?_
  refine br_t (by decide +kernel) ?_
  refine rx_com_1 ?_
  refine rx_beg_1 ?_
  refine rx_iss_1 ?_
  refine nm_r (e' := (1 : Int32)) (by decide +kernel) ?_
  exact hp
theorem rx_cy2 {post : Int32 → St2 → Prop} {n : Nat} {x y z kd : Int32} {c : Nat → Int32}
    (hp : wX_finish_28 post 9 n 0 2 3 0 1 0 kd 2 1 0 2 (rx_6 1 5 4 0 0 0) (rx_6 18 14 12 0 0 0) (rx_6 0 0 0 0 0 0) (rx_6 x y 0 z 0 0) c (rx_6 1 5 0 0 0 0) (rx_6 0 1 0 0 0 0) (rx_6 1 0 0 0 0 0) (rx_6 1 0 0 0 0 0) (rx_6 0 0 0 0 0 0) (rx_6 0 0 0 0 0 0) (rx_6 0 0 0 0 0 0) (rx_6 0 0 0 0 0 0) (rx_6 2 0 0 0 0 0) (rx_6 (-1) 0 0 0 0 0) (rx_6 (-1) (-1) 0 0 0 0) (rx_6 x 0 0 0 0 0) (rx_6 y z 0 0 0 0) (rx_6 (-1) (-1) 0 (-1) 0 0)) :
    wX_finish_28 post 9 (n + 1) 0 1 3 0 1 0 kd 1 1 0 1 (rx_6 1 5 4 0 0 0) (rx_6 18 14 12 0 0 0) (rx_6 0 0 0 0 0 0) (rx_6 x y 0 z 0 0) c (rx_6 1 0 0 0 0 0) (rx_6 0 0 0 0 0 0) (rx_6 0 0 0 0 0 0) (rx_6 0 0 0 0 0 0) (rx_6 0 0 0 0 0 0) (rx_6 0 0 0 0 0 0) (rx_6 0 0 0 0 0 0) (rx_6 0 0 0 0 0 0) (rx_6 2 0 0 0 0 0) (rx_6 (-1) 0 0 0 0 0) (rx_6 (-1) 0 0 0 0 0) (rx_6 x 0 0 0 0 0) (rx_6 y 0 0 0 0 0) (rx_6 (-1) (-1) 0 (-1) 0 0) := by
  refine br_f (by decide +kernel) ?_
  refine br_f (by decide +kernel) ?_
  refine br_t (by decide +kernel) ?_
  refine rx_ret_2 ?_
  refine nm_r (e' := (0 : Int32)) (by decide +kernel) ?_
  refine br_f (by decide +kernel) ?_
  refine br_t (by decide +kernel) ?_
  refine rx_com_2 ?_
  refine rx_beg_2 ?_
  refine rx_iss_2 ?_
  refine nm_r (e' := (2 : Int32)) (by decide +kernel) ?_
  exact hp
theorem rx_cy3 {post : Int32 → St2 → Prop} {n : Nat} {x y z kd : Int32} {c : Nat → Int32}
    (hp : wX_finish_28 post 9 n 0 3 3 0 1 0 kd 3 1 0 3 (rx_6 1 5 4 0 0 0) (rx_6 18 14 12 0 0 0) (rx_6 0 0 0 0 0 0) (rx_6 x y 0 z 0 0) c (rx_6 1 5 4 0 0 0) (rx_6 0 1 2 0 0 0) (rx_6 2 1 0 0 0 0) (rx_6 0 1 0 0 0 0) (rx_6 (x + y) 0 0 0 0 0) (rx_6 0 0 0 0 0 0) (rx_6 0 0 0 0 0 0) (rx_6 0 0 0 0 0 0) (rx_6 2 0 0 0 0 0) (rx_6 (-1) (-1) (-1) 0 0 0) (rx_6 (-1) (-1) (-1) 0 0 0) (rx_6 x (x + y) z 0 0 0) (rx_6 y z 0 0 0 0) (rx_6 2 (-1) 0 (-1) 0 0)) :
    wX_finish_28 post 9 (n + 1) 0 2 3 0 1 0 kd 2 1 0 2 (rx_6 1 5 4 0 0 0) (rx_6 18 14 12 0 0 0) (rx_6 0 0 0 0 0 0) (rx_6 x y 0 z 0 0) c (rx_6 1 5 0 0 0 0) (rx_6 0 1 0 0 0 0) (rx_6 1 0 0 0 0 0) (rx_6 1 0 0 0 0 0) (rx_6 0 0 0 0 0 0) (rx_6 0 0 0 0 0 0) (rx_6 0 0 0 0 0 0) (rx_6 0 0 0 0 0 0) (rx_6 2 0 0 0 0 0) (rx_6 (-1) 0 0 0 0 0) (rx_6 (-1) (-1) 0 0 0 0) (rx_6 x 0 0 0 0 0) (rx_6 y z 0 0 0 0) (rx_6 (-1) (-1) 0 (-1) 0 0) := by
  refine br_f (by decide +kernel) ?_
  refine br_f (by decide +kernel) ?_
  refine br_t (by decide +kernel) ?_
  refine rx_ret_3 ?_
  refine nm_r (e' := (0 : Int32)) (by decide +kernel) ?_
  refine br_f (by decide +kernel) ?_
  refine br_t (by decide +kernel) ?_
  refine rx_com_3 ?_
  refine rx_beg_3 ?_
  refine rx_iss_3 ?_
  refine nm_r (e' := (3 : Int32)) (by decide +kernel) ?_
  exact hp
theorem rx_cy4 {post : Int32 → St2 → Prop} {n : Nat} {x y z kd : Int32} {c : Nat → Int32} (hz : 0 ≤ z)
    (hp : wX_finish_28 post 9 n 1 4 3 1 1 1 kd 3 0 1 3 (rx_6 1 5 4 0 0 0) (rx_6 18 14 12 0 0 0) (rx_6 0 0 0 0 0 0) (rx_6 x y (x + y) z 0 0) c (rx_6 1 5 4 9 0 0) (rx_6 0 1 2 3 0 0) (rx_6 2 2 0 0 0 0) (rx_6 0 0 0 0 0 0) (rx_6 (x + y) 0 0 0 0 0) (rx_6 0 (z &&& 7) 0 0 0 0) (rx_6 0 0 0 0 0 0) (rx_6 0 0 0 0 0 0) (rx_6 2 0 0 0 0 0) (rx_6 (-1) (-1) (-1) (-1) 0 0) (rx_6 (-1) (-1) (-1) (-1) 0 0) (rx_6 x (x + y) z 0 0 0) (rx_6 y z 0 0 0 0) (rx_6 2 (-1) (-1) (-1) 0 0)) :
    wX_finish_28 post 9 (n + 1) 0 3 3 0 1 0 kd 3 1 0 3 (rx_6 1 5 4 0 0 0) (rx_6 18 14 12 0 0 0) (rx_6 0 0 0 0 0 0) (rx_6 x y 0 z 0 0) c (rx_6 1 5 4 0 0 0) (rx_6 0 1 2 0 0 0) (rx_6 2 1 0 0 0 0) (rx_6 0 1 0 0 0 0) (rx_6 (x + y) 0 0 0 0 0) (rx_6 0 0 0 0 0 0) (rx_6 0 0 0 0 0 0) (rx_6 0 0 0 0 0 0) (rx_6 2 0 0 0 0 0) (rx_6 (-1) (-1) (-1) 0 0 0) (rx_6 (-1) (-1) (-1) 0 0 0) (rx_6 x (x + y) z 0 0 0) (rx_6 y z 0 0 0 0) (rx_6 2 (-1) 0 (-1) 0 0) := by
  refine br_f (by decide +kernel) ?_
  refine br_f (by decide +kernel) ?_
  refine br_t (by decide +kernel) ?_
  refine rx_ret_4 ?_
  refine nm_r (e' := (1 : Int32)) (by decide +kernel) ?_
  refine br_f (by decide +kernel) ?_
  refine br_t (by decide +kernel) ?_
  refine rx_com_4 hz ?_
  refine rx_beg_4 ?_
  refine rx_iss_4 ?_
  refine nm_r (e' := (4 : Int32)) (by decide +kernel) ?_
  exact hp
theorem rx_cy5 {post : Int32 → St2 → Prop} {n : Nat} {x y z kd : Int32} {c : Nat → Int32}
    (hp : wX_finish_28 post 9 n 2 5 3 2 1 2 kd 3 0 2 2 (rx_6 1 5 4 0 0 0) (rx_6 18 14 12 0 0 0) (rx_6 0 0 0 0 0 0) (rx_6 x y (x + y) z 0 0) (upd c (z &&& 7).toNatClampNeg (x + y)) (rx_6 1 5 4 9 0 0) (rx_6 0 1 2 3 0 0) (rx_6 2 2 1 1 0 0) (rx_6 0 0 2 1 0 0) (rx_6 (x + y) 0 0 0 0 0) (rx_6 0 (z &&& 7) 0 0 0 0) (rx_6 0 0 0 0 0 0) (rx_6 0 0 0 0 0 0) (rx_6 2 0 0 0 0 0) (rx_6 (-1) (-1) (-1) (-1) 0 0) (rx_6 (-1) (-1) (-1) (-1) 0 0) (rx_6 x (x + y) z 0 0 0) (rx_6 y z 0 0 0 0) (rx_6 2 (-1) (-1) (-1) 0 0)) :
    wX_finish_28 post 9 (n + 1) 1 4 3 1 1 1 kd 3 0 1 3 (rx_6 1 5 4 0 0 0) (rx_6 18 14 12 0 0 0) (rx_6 0 0 0 0 0 0) (rx_6 x y (x + y) z 0 0) c (rx_6 1 5 4 9 0 0) (rx_6 0 1 2 3 0 0) (rx_6 2 2 0 0 0 0) (rx_6 0 0 0 0 0 0) (rx_6 (x + y) 0 0 0 0 0) (rx_6 0 (z &&& 7) 0 0 0 0) (rx_6 0 0 0 0 0 0) (rx_6 0 0 0 0 0 0) (rx_6 2 0 0 0 0 0) (rx_6 (-1) (-1) (-1) (-1) 0 0) (rx_6 (-1) (-1) (-1) (-1) 0 0) (rx_6 x (x + y) z 0 0 0) (rx_6 y z 0 0 0 0) (rx_6 2 (-1) (-1) (-1) 0 0) := by
  refine br_f (by decide +kernel) ?_
  refine br_f (by decide +kernel) ?_
  refine br_t (by decide +kernel) ?_
  refine rx_ret_5 (rx_and7 z) ?_
  refine nm_r (e' := (2 : Int32)) (by decide +kernel) ?_
  refine br_f (by decide +kernel) ?_
  refine br_t (by decide +kernel) ?_
  refine rx_com_5 ?_
  refine rx_beg_5 ?_
  refine rx_iss_5 ?_
  refine nm_r (e' := (5 : Int32)) (by decide +kernel) ?_
  exact hp
theorem rx_cy6 {post : Int32 → St2 → Prop} {n : Nat} {x y z kd : Int32} {c : Nat → Int32}
    (hp : wX_finish_28 post 9 n 2 6 3 2 1 2 kd 3 0 2 2 (rx_6 1 5 4 0 0 0) (rx_6 18 14 12 0 0 0) (rx_6 0 0 0 0 0 0) (rx_6 x y (x + y) z 0 0) (upd c (z &&& 7).toNatClampNeg (x + y)) (rx_6 1 5 4 9 0 0) (rx_6 0 1 2 3 0 0) (rx_6 2 2 1 2 0 0) (rx_6 0 0 1 0 0 0) (rx_6 (x + y) 0 0 0 0 0) (rx_6 0 (z &&& 7) 0 0 0 0) (rx_6 0 0 0 1 0 0) (rx_6 0 0 0 0 0 0) (rx_6 2 0 0 0 0 0) (rx_6 (-1) (-1) (-1) (-1) 0 0) (rx_6 (-1) (-1) (-1) (-1) 0 0) (rx_6 x (x + y) z 0 0 0) (rx_6 y z 0 0 0 0) (rx_6 2 (-1) (-1) (-1) 0 0)) :
    wX_finish_28 post 9 (n + 1) 2 5 3 2 1 2 kd 3 0 2 2 (rx_6 1 5 4 0 0 0) (rx_6 18 14 12 0 0 0) (rx_6 0 0 0 0 0 0) (rx_6 x y (x + y) z 0 0) (upd c (z &&& 7).toNatClampNeg (x + y)) (rx_6 1 5 4 9 0 0) (rx_6 0 1 2 3 0 0) (rx_6 2 2 1 1 0 0) (rx_6 0 0 2 1 0 0) (rx_6 (x + y) 0 0 0 0 0) (rx_6 0 (z &&& 7) 0 0 0 0) (rx_6 0 0 0 0 0 0) (rx_6 0 0 0 0 0 0) (rx_6 2 0 0 0 0 0) (rx_6 (-1) (-1) (-1) (-1) 0 0) (rx_6 (-1) (-1) (-1) (-1) 0 0) (rx_6 x (x + y) z 0 0 0) (rx_6 y z 0 0 0 0) (rx_6 2 (-1) (-1) (-1) 0 0) := by
  refine br_f (by decide +kernel) ?_
  refine br_f (by decide +kernel) ?_
  refine br_t (by decide +kernel) ?_
  refine rx_ret_6 ?_
  refine nm_r (e' := (2 : Int32)) (by decide +kernel) ?_
  refine br_f (by decide +kernel) ?_
  refine br_t (by decide +kernel) ?_
  refine rx_com_6 ?_
  refine rx_beg_6 ?_
  refine rx_iss_5 ?_
  refine nm_r (e' := (6 : Int32)) (by decide +kernel) ?_
  exact hp
theorem rx_cy7 {post : Int32 → St2 → Prop} {n : Nat} {x y z kd : Int32} {c : Nat → Int32} (hz : 0 ≤ z)
    (hp : wX_finish_28 post 9 n 2 7 3 2 1 2 kd 3 0 2 2 (rx_6 1 5 4 0 0 0) (rx_6 18 14 12 0 0 0) (rx_6 0 0 0 0 0 0) (rx_6 x y (x + y) z 0 0) (upd c (z &&& 7).toNatClampNeg (x + y)) (rx_6 1 5 4 9 0 0) (rx_6 0 1 2 3 0 0) (rx_6 2 2 2 2 0 0) (rx_6 0 0 0 0 0 0) (rx_6 (x + y) 0 ((upd c (z &&& 7).toNatClampNeg (x + y)) (z &&& 7).toNatClampNeg) 0 0 0) (rx_6 0 (z &&& 7) 0 0 0 0) (rx_6 0 0 0 1 0 0) (rx_6 0 0 0 0 0 0) (rx_6 2 0 0 0 0 0) (rx_6 (-1) (-1) (-1) (-1) 0 0) (rx_6 (-1) (-1) (-1) (-1) 0 0) (rx_6 x (x + y) z 0 0 0) (rx_6 y z 0 0 0 0) (rx_6 2 (-1) (-1) (-1) 0 0)) :
    wX_finish_28 post 9 (n + 1) 2 6 3 2 1 2 kd 3 0 2 2 (rx_6 1 5 4 0 0 0) (rx_6 18 14 12 0 0 0) (rx_6 0 0 0 0 0 0) (rx_6 x y (x + y) z 0 0) (upd c (z &&& 7).toNatClampNeg (x + y)) (rx_6 1 5 4 9 0 0) (rx_6 0 1 2 3 0 0) (rx_6 2 2 1 2 0 0) (rx_6 0 0 1 0 0 0) (rx_6 (x + y) 0 0 0 0 0) (rx_6 0 (z &&& 7) 0 0 0 0) (rx_6 0 0 0 1 0 0) (rx_6 0 0 0 0 0 0) (rx_6 2 0 0 0 0 0) (rx_6 (-1) (-1) (-1) (-1) 0 0) (rx_6 (-1) (-1) (-1) (-1) 0 0) (rx_6 x (x + y) z 0 0 0) (rx_6 y z 0 0 0 0) (rx_6 2 (-1) (-1) (-1) 0 0) := by
  refine br_f (by decide +kernel) ?_
  refine br_f (by decide +kernel) ?_
  refine br_t (by decide +kernel) ?_
  refine rx_ret_7 ?_
  refine nm_r (e' := (2 : Int32)) (by decide +kernel) ?_
  refine br_f (by decide +kernel) ?_
  refine br_t (by decide +kernel) ?_
  refine rx_com_7 hz ?_
  refine rx_beg_7 ?_
  refine rx_iss_5 ?_
  refine nm_r (e' := (7 : Int32)) (by decide +kernel) ?_
  exact hp
theorem rx_cy8 {post : Int32 → St2 → Prop} {n : Nat} {x y z kd : Int32} {c : Nat → Int32}
    (hp : wX_finish_28 post 9 n 3 8 3 3 1 3 kd 3 0 3 1 (rx_6 1 5 4 0 0 0) (rx_6 18 14 12 0 0 0) (rx_6 0 0 0 0 0 0) (rx_6 ((upd c (z &&& 7).toNatClampNeg (x + y)) (z &&& 7).toNatClampNeg) y (x + y) z 0 0) (upd c (z &&& 7).toNatClampNeg (x + y)) (rx_6 1 5 4 9 0 0) (rx_6 0 1 2 3 0 0) (rx_6 2 2 2 2 0 0) (rx_6 0 0 0 0 0 0) (rx_6 (x + y) 0 ((upd c (z &&& 7).toNatClampNeg (x + y)) (z &&& 7).toNatClampNeg) 0 0 0) (rx_6 0 (z &&& 7) 0 0 0 0) (rx_6 0 0 0 1 0 0) (rx_6 0 0 0 0 0 0) (rx_6 2 0 0 0 0 0) (rx_6 (-1) (-1) (-1) (-1) 0 0) (rx_6 (-1) (-1) (-1) (-1) 0 0) (rx_6 x (x + y) z 0 0 0) (rx_6 y z 0 0 0 0) (rx_6 (-1) (-1) (-1) (-1) 0 0)) :
    wX_finish_28 post 9 (n + 1) 2 7 3 2 1 2 kd 3 0 2 2 (rx_6 1 5 4 0 0 0) (rx_6 18 14 12 0 0 0) (rx_6 0 0 0 0 0 0) (rx_6 x y (x + y) z 0 0) (upd c (z &&& 7).toNatClampNeg (x + y)) (rx_6 1 5 4 9 0 0) (rx_6 0 1 2 3 0 0) (rx_6 2 2 2 2 0 0) (rx_6 0 0 0 0 0 0) (rx_6 (x + y) 0 ((upd c (z &&& 7).toNatClampNeg (x + y)) (z &&& 7).toNatClampNeg) 0 0 0) (rx_6 0 (z &&& 7) 0 0 0 0) (rx_6 0 0 0 1 0 0) (rx_6 0 0 0 0 0 0) (rx_6 2 0 0 0 0 0) (rx_6 (-1) (-1) (-1) (-1) 0 0) (rx_6 (-1) (-1) (-1) (-1) 0 0) (rx_6 x (x + y) z 0 0 0) (rx_6 y z 0 0 0 0) (rx_6 2 (-1) (-1) (-1) 0 0) := by
  refine br_f (by decide +kernel) ?_
  refine br_f (by decide +kernel) ?_
  refine br_t (by decide +kernel) ?_
  refine rx_ret_8 ?_
  refine nm_r (e' := (3 : Int32)) (by decide +kernel) ?_
  refine br_f (by decide +kernel) ?_
  refine br_t (by decide +kernel) ?_
  refine rx_com_8 ?_
  refine rx_beg_8 ?_
  refine rx_iss_6 ?_
  refine nm_r (e' := (8 : Int32)) (by decide +kernel) ?_
  exact hp
theorem rx_cy9 {post : Int32 → St2 → Prop} {n : Nat} {x y z kd : Int32} {c : Nat → Int32}
    (hp : wX_finish_28 post 9 n 3 9 3 3 3 3 kd 3 0 3 1 (rx_6 1 5 4 0 0 0) (rx_6 18 14 12 0 0 0) (rx_6 0 0 0 0 0 0) (rx_6 ((upd c (z &&& 7).toNatClampNeg (x + y)) (z &&& 7).toNatClampNeg) y (x + y) z 0 0) (upd c (z &&& 7).toNatClampNeg (x + y)) (rx_6 1 5 4 9 0 0) (rx_6 0 1 2 3 0 0) (rx_6 2 2 2 2 0 0) (rx_6 0 0 0 0 0 0) (rx_6 (x + y) 0 ((upd c (z &&& 7).toNatClampNeg (x + y)) (z &&& 7).toNatClampNeg) 0 0 0) (rx_6 0 (z &&& 7) 0 0 0 0) (rx_6 0 0 0 1 0 0) (rx_6 0 0 0 0 0 0) (rx_6 2 0 0 0 0 0) (rx_6 (-1) (-1) (-1) (-1) 0 0) (rx_6 (-1) (-1) (-1) (-1) 0 0) (rx_6 x (x + y) z 0 0 0) (rx_6 y z 0 0 0 0) (rx_6 (-1) (-1) (-1) (-1) 0 0)) :
    wX_finish_28 post 9 (n + 1) 3 8 3 3 1 3 kd 3 0 3 1 (rx_6 1 5 4 0 0 0) (rx_6 18 14 12 0 0 0) (rx_6 0 0 0 0 0 0) (rx_6 ((upd c (z &&& 7).toNatClampNeg (x + y)) (z &&& 7).toNatClampNeg) y (x + y) z 0 0) (upd c (z &&& 7).toNatClampNeg (x + y)) (rx_6 1 5 4 9 0 0) (rx_6 0 1 2 3 0 0) (rx_6 2 2 2 2 0 0) (rx_6 0 0 0 0 0 0) (rx_6 (x + y) 0 ((upd c (z &&& 7).toNatClampNeg (x + y)) (z &&& 7).toNatClampNeg) 0 0 0) (rx_6 0 (z &&& 7) 0 0 0 0) (rx_6 0 0 0 1 0 0) (rx_6 0 0 0 0 0 0) (rx_6 2 0 0 0 0 0) (rx_6 (-1) (-1) (-1) (-1) 0 0) (rx_6 (-1) (-1) (-1) (-1) 0 0) (rx_6 x (x + y) z 0 0 0) (rx_6 y z 0 0 0 0) (rx_6 (-1) (-1) (-1) (-1) 0 0) := by
  refine br_f (by decide +kernel) ?_
  refine br_f (by decide +kernel) ?_
  refine br_t (by decide +kernel) ?_
  refine rx_ret_9 ?_
  refine nm_r (e' := (3 : Int32)) (by decide +kernel) ?_
  refine br_f (by decide +kernel) ?_
  refine br_f (by decide +kernel) ?_
  refine nm_r (e' := (9 : Int32)) (by decide +kernel) ?_
  exact hp
theorem rx_cy10 {post : Int32 → St2 → Prop} {n : Nat} {x y z kd : Int32} {c : Nat → Int32} (hz : ¬ 0 ≤ z)
    (hp : wX_finish_28 post 9 n 1 4 3 1 1 1 kd 3 0 1 3 (rx_6 1 5 4 0 0 0) (rx_6 18 14 12 0 0 0) (rx_6 0 0 0 0 0 0) (rx_6 x y (x + y) z 0 0) c (rx_6 1 5 4 9 0 0) (rx_6 0 1 2 3 0 0) (rx_6 2 2 0 0 0 0) (rx_6 0 0 0 0 0 0) (rx_6 (x + y) 0 0 0 0 0) (rx_6 0 (z &&& 7) 0 0 0 0) (rx_6 0 1 0 0 0 0) (rx_6 0 0 0 0 0 0) (rx_6 2 0 0 0 0 0) (rx_6 (-1) (-1) (-1) (-1) 0 0) (rx_6 (-1) (-1) (-1) (-1) 0 0) (rx_6 x (x + y) z 0 0 0) (rx_6 y z 0 0 0 0) (rx_6 2 (-1) (-1) (-1) 0 0)) :
    wX_finish_28 post 9 (n + 1) 0 3 3 0 1 0 kd 3 1 0 3 (rx_6 1 5 4 0 0 0) (rx_6 18 14 12 0 0 0) (rx_6 0 0 0 0 0 0) (rx_6 x y 0 z 0 0) c (rx_6 1 5 4 0 0 0) (rx_6 0 1 2 0 0 0) (rx_6 2 1 0 0 0 0) (rx_6 0 1 0 0 0 0) (rx_6 (x + y) 0 0 0 0 0) (rx_6 0 0 0 0 0 0) (rx_6 0 0 0 0 0 0) (rx_6 0 0 0 0 0 0) (rx_6 2 0 0 0 0 0) (rx_6 (-1) (-1) (-1) 0 0 0) (rx_6 (-1) (-1) (-1) 0 0 0) (rx_6 x (x + y) z 0 0 0) (rx_6 y z 0 0 0 0) (rx_6 2 (-1) 0 (-1) 0 0) := by
  refine br_f (by decide +kernel) ?_
  refine br_f (by decide +kernel) ?_
  refine br_t (by decide +kernel) ?_
  refine rx_ret_4 ?_
  refine nm_r (e' := (1 : Int32)) (by decide +kernel) ?_
  refine br_f (by decide +kernel) ?_
  refine br_t (by decide +kernel) ?_
  refine rx_com_9 hz ?_
  refine rx_beg_4 ?_
  refine rx_iss_7 ?_
  refine nm_r (e' := (4 : Int32)) (by decide +kernel) ?_
  exact hp
theorem rx_cy11 {post : Int32 → St2 → Prop} {n : Nat} {x y z kd : Int32} {c : Nat → Int32}
    (hp : wX_finish_28 post 9 n 1 5 3 1 3 1 kd 3 0 1 3 (rx_6 1 5 4 0 0 0) (rx_6 18 14 12 0 0 0) (rx_6 0 0 0 0 0 0) (rx_6 x y (x + y) z 0 0) c (rx_6 1 5 4 9 0 0) (rx_6 0 1 2 3 0 0) (rx_6 2 2 0 0 0 0) (rx_6 0 0 0 0 0 0) (rx_6 (x + y) 0 0 0 0 0) (rx_6 0 (z &&& 7) 0 0 0 0) (rx_6 0 1 0 0 0 0) (rx_6 0 0 0 0 0 0) (rx_6 2 0 0 0 0 0) (rx_6 (-1) (-1) (-1) (-1) 0 0) (rx_6 (-1) (-1) (-1) (-1) 0 0) (rx_6 x (x + y) z 0 0 0) (rx_6 y z 0 0 0 0) (rx_6 2 (-1) (-1) (-1) 0 0)) :
    wX_finish_28 post 9 (n + 1) 1 4 3 1 1 1 kd 3 0 1 3 (rx_6 1 5 4 0 0 0) (rx_6 18 14 12 0 0 0) (rx_6 0 0 0 0 0 0) (rx_6 x y (x + y) z 0 0) c (rx_6 1 5 4 9 0 0) (rx_6 0 1 2 3 0 0) (rx_6 2 2 0 0 0 0) (rx_6 0 0 0 0 0 0) (rx_6 (x + y) 0 0 0 0 0) (rx_6 0 (z &&& 7) 0 0 0 0) (rx_6 0 1 0 0 0 0) (rx_6 0 0 0 0 0 0) (rx_6 2 0 0 0 0 0) (rx_6 (-1) (-1) (-1) (-1) 0 0) (rx_6 (-1) (-1) (-1) (-1) 0 0) (rx_6 x (x + y) z 0 0 0) (rx_6 y z 0 0 0 0) (rx_6 2 (-1) (-1) (-1) 0 0) := by
  refine br_f (by decide +kernel) ?_
  refine br_f (by decide +kernel) ?_
  refine br_t (by decide +kernel) ?_
  refine rx_ret_10 ?_
  refine nm_r (e' := (1 : Int32)) (by decide +kernel) ?_
  refine br_f (by decide +kernel) ?_
  refine br_f (by decide +kernel) ?_
  refine nm_r (e' := (5 : Int32)) (by decide +kernel) ?_
  exact hp
theorem rx_cy12 {post : Int32 → St2 → Prop} {n : Nat} {x y z kd : Int32} {c : Nat → Int32}
    (hp : wX_finish_28 post 9 n 0 1 3 0 1 0 kd 1 1 0 1 (rx_6 2 5 4 0 0 0) (rx_6 18 14 12 0 0 0) (rx_6 0 0 0 0 0 0) (rx_6 x y 0 z 0 0) c (rx_6 2 0 0 0 0 0) (rx_6 0 0 0 0 0 0) (rx_6 0 0 0 0 0 0) (rx_6 0 0 0 0 0 0) (rx_6 0 0 0 0 0 0) (rx_6 0 0 0 0 0 0) (rx_6 0 0 0 0 0 0) (rx_6 0 0 0 0 0 0) (rx_6 2 0 0 0 0 0) (rx_6 (-1) 0 0 0 0 0) (rx_6 (-1) 0 0 0 0 0) (rx_6 x 0 0 0 0 0) (rx_6 y 0 0 0 0 0) (rx_6 (-1) (-1) 0 (-1) 0 0)) :
    wX_finish_28 post 9 (n + 1) 0 0 3 0 1 0 kd 0 1 0 0 (rx_6 2 5 4 0 0 0) (rx_6 18 14 12 0 0 0) (rx_6 0 0 0 0 0 0) (rx_6 x y 0 z 0 0) c (rx_6 0 0 0 0 0 0) (rx_6 0 0 0 0 0 0) (rx_6 0 0 0 0 0 0) (rx_6 0 0 0 0 0 0) (rx_6 0 0 0 0 0 0) (rx_6 0 0 0 0 0 0) (rx_6 0 0 0 0 0 0) (rx_6 0 0 0 0 0 0) (rx_6 0 0 0 0 0 0) (rx_6 0 0 0 0 0 0) (rx_6 0 0 0 0 0 0) (rx_6 0 0 0 0 0 0) (rx_6 0 0 0 0 0 0) (rx_6 (-1) (-1) (-1) (-1) 0 0) := by
  refine br_f (by decide +kernel) ?_
  refine br_f (by decide +kernel) ?_
  refine br_t (by decide +kernel) ?_
  refine rx_ret_1 ?_
  refine nm_r (e' := (0 : Int32)) (by decide +kernel) ?_
  refine br_f (by decide +kernel) ?_
  refine br_t (by decide +kernel) ?_
  refine rx_com_1 ?_
  refine rx_beg_1 ?_
  refine rx_iss_8 ?_
  refine nm_r (e' := (1 : Int32)) (by decide +kernel) ?_
  exact hp
theorem rx_cy13 {post : Int32 → St2 → Prop} {n : Nat} {x y z kd : Int32} {c : Nat → Int32}
    (hp : wX_finish_28 post 9 n 0 2 3 0 1 0 kd 2 1 0 2 (rx_6 2 5 4 0 0 0) (rx_6 18 14 12 0 0 0) (rx_6 0 0 0 0 0 0) (rx_6 x y 0 z 0 0) c (rx_6 2 5 0 0 0 0) (rx_6 0 1 0 0 0 0) (rx_6 1 0 0 0 0 0) (rx_6 3 0 0 0 0 0) (rx_6 0 0 0 0 0 0) (rx_6 0 0 0 0 0 0) (rx_6 0 0 0 0 0 0) (rx_6 0 0 0 0 0 0) (rx_6 2 0 0 0 0 0) (rx_6 (-1) 0 0 0 0 0) (rx_6 (-1) (-1) 0 0 0 0) (rx_6 x 0 0 0 0 0) (rx_6 y z 0 0 0 0) (rx_6 (-1) (-1) 0 (-1) 0 0)) :
    wX_finish_28 post 9 (n + 1) 0 1 3 0 1 0 kd 1 1 0 1 (rx_6 2 5 4 0 0 0) (rx_6 18 14 12 0 0 0) (rx_6 0 0 0 0 0 0) (rx_6 x y 0 z 0 0) c (rx_6 2 0 0 0 0 0) (rx_6 0 0 0 0 0 0) (rx_6 0 0 0 0 0 0) (rx_6 0 0 0 0 0 0) (rx_6 0 0 0 0 0 0) (rx_6 0 0 0 0 0 0) (rx_6 0 0 0 0 0 0) (rx_6 0 0 0 0 0 0) (rx_6 2 0 0 0 0 0) (rx_6 (-1) 0 0 0 0 0) (rx_6 (-1) 0 0 0 0 0) (rx_6 x 0 0 0 0 0) (rx_6 y 0 0 0 0 0) (rx_6 (-1) (-1) 0 (-1) 0 0) := by
  refine br_f (by decide +kernel) ?_
  refine br_f (by decide +kernel) ?_
  refine br_t (by decide +kernel) ?_
  refine rx_ret_2 ?_
  refine nm_r (e' := (0 : Int32)) (by decide +kernel) ?_
  refine br_f (by decide +kernel) ?_
  refine br_t (by decide +kernel) ?_
  refine rx_com_2 ?_
  refine rx_beg_9 ?_
  refine rx_iss_9 ?_
  refine nm_r (e' := (2 : Int32)) (by decide +kernel) ?_
  exact hp
theorem rx_cy14 {post : Int32 → St2 → Prop} {n : Nat} {x y z kd : Int32} {c : Nat → Int32}
    (hp : wX_finish_28 post 9 n 0 3 3 0 1 0 kd 3 1 0 3 (rx_6 2 5 4 0 0 0) (rx_6 18 14 12 0 0 0) (rx_6 0 0 0 0 0 0) (rx_6 x y 0 z 0 0) c (rx_6 2 5 4 0 0 0) (rx_6 0 1 2 0 0 0) (rx_6 1 0 0 0 0 0) (rx_6 2 0 0 0 0 0) (rx_6 0 0 0 0 0 0) (rx_6 0 0 0 0 0 0) (rx_6 0 0 0 0 0 0) (rx_6 0 0 0 0 0 0) (rx_6 2 0 0 0 0 0) (rx_6 (-1) 0 (-1) 0 0 0) (rx_6 (-1) (-1) (-1) 0 0 0) (rx_6 x 0 z 0 0 0) (rx_6 y z 0 0 0 0) (rx_6 2 (-1) 0 (-1) 0 0)) :
    wX_finish_28 post 9 (n + 1) 0 2 3 0 1 0 kd 2 1 0 2 (rx_6 2 5 4 0 0 0) (rx_6 18 14 12 0 0 0) (rx_6 0 0 0 0 0 0) (rx_6 x y 0 z 0 0) c (rx_6 2 5 0 0 0 0) (rx_6 0 1 0 0 0 0) (rx_6 1 0 0 0 0 0) (rx_6 3 0 0 0 0 0) (rx_6 0 0 0 0 0 0) (rx_6 0 0 0 0 0 0) (rx_6 0 0 0 0 0 0) (rx_6 0 0 0 0 0 0) (rx_6 2 0 0 0 0 0) (rx_6 (-1) 0 0 0 0 0) (rx_6 (-1) (-1) 0 0 0 0) (rx_6 x 0 0 0 0 0) (rx_6 y z 0 0 0 0) (rx_6 (-1) (-1) 0 (-1) 0 0) := by
  refine br_f (by decide +kernel) ?_
  refine br_f (by decide +kernel) ?_
  refine br_t (by decide +kernel) ?_
  refine rx_ret_3 ?_
  refine nm_r (e' := (0 : Int32)) (by decide +kernel) ?_
  refine br_f (by decide +kernel) ?_
  refine br_t (by decide +kernel) ?_
  refine rx_com_10 ?_
  refine rx_beg_10 ?_
  refine rx_iss_10 ?_
  refine nm_r (e' := (3 : Int32)) (by decide +kernel) ?_
  exact hp
theorem rx_cy15 {post : Int32 → St2 → Prop} {n : Nat} {x y z kd : Int32} {c : Nat → Int32}
    (hp : wX_finish_28 post 9 n 0 4 3 0 1 0 kd 3 0 0 4 (rx_6 2 5 4 0 0 0) (rx_6 18 14 12 0 0 0) (rx_6 0 0 0 0 0 0) (rx_6 x y 0 z 0 0) c (rx_6 2 5 4 9 0 0) (rx_6 0 1 2 3 0 0) (rx_6 1 0 0 0 0 0) (rx_6 1 0 0 0 0 0) (rx_6 0 0 0 0 0 0) (rx_6 0 0 0 0 0 0) (rx_6 0 0 0 0 0 0) (rx_6 0 0 0 0 0 0) (rx_6 2 0 0 0 0 0) (rx_6 (-1) 0 (-1) (-1) 0 0) (rx_6 (-1) (-1) (-1) (-1) 0 0) (rx_6 x 0 z 0 0 0) (rx_6 y z 0 0 0 0) (rx_6 2 (-1) 0 (-1) 0 0)) :
    wX_finish_28 post 9 (n + 1) 0 3 3 0 1 0 kd 3 1 0 3 (rx_6 2 5 4 0 0 0) (rx_6 18 14 12 0 0 0) (rx_6 0 0 0 0 0 0) (rx_6 x y 0 z 0 0) c (rx_6 2 5 4 0 0 0) (rx_6 0 1 2 0 0 0) (rx_6 1 0 0 0 0 0) (rx_6 2 0 0 0 0 0) (rx_6 0 0 0 0 0 0) (rx_6 0 0 0 0 0 0) (rx_6 0 0 0 0 0 0) (rx_6 0 0 0 0 0 0) (rx_6 2 0 0 0 0 0) (rx_6 (-1) 0 (-1) 0 0 0) (rx_6 (-1) (-1) (-1) 0 0 0) (rx_6 x 0 z 0 0 0) (rx_6 y z 0 0 0 0) (rx_6 2 (-1) 0 (-1) 0 0) := by
  refine br_f (by decide +kernel) ?_
  refine br_f (by decide +kernel) ?_
  refine br_t (by decide +kernel) ?_
  refine rx_ret_11 ?_
  refine nm_r (e' := (0 : Int32)) (by decide +kernel) ?_
  refine br_f (by decide +kernel) ?_
  refine br_t (by decide +kernel) ?_
  refine rx_com_11 ?_
  refine rx_beg_11 ?_
  refine rx_iss_11 ?_
  refine nm_r (e' := (4 : Int32)) (by decide +kernel) ?_
  exact hp
theorem rx_cy16 {post : Int32 → St2 → Prop} {n : Nat} {x y z kd : Int32} {c : Nat → Int32}
    (hp : wX_finish_28 post 9 n 0 5 3 0 1 0 kd 3 0 0 4 (rx_6 2 5 4 0 0 0) (rx_6 18 14 12 0 0 0) (rx_6 0 0 0 0 0 0) (rx_6 x y 0 z 0 0) c (rx_6 2 5 4 9 0 0) (rx_6 0 1 2 3 0 0) (rx_6 2 1 0 1 0 0) (rx_6 0 1 0 1 0 0) (rx_6 (x * y) 0 0 0 0 0) (rx_6 0 0 0 0 0 0) (rx_6 0 0 0 0 0 0) (rx_6 0 0 0 0 0 0) (rx_6 2 0 0 0 0 0) (rx_6 (-1) (-1) (-1) (-1) 0 0) (rx_6 (-1) (-1) (-1) (-1) 0 0) (rx_6 x (x * y) z 0 0 0) (rx_6 y z 0 0 0 0) (rx_6 2 (-1) 0 (-1) 0 0)) :
    wX_finish_28 post 9 (n + 1) 0 4 3 0 1 0 kd 3 0 0 4 (rx_6 2 5 4 0 0 0) (rx_6 18 14 12 0 0 0) (rx_6 0 0 0 0 0 0) (rx_6 x y 0 z 0 0) c (rx_6 2 5 4 9 0 0) (rx_6 0 1 2 3 0 0) (rx_6 1 0 0 0 0 0) (rx_6 1 0 0 0 0 0) (rx_6 0 0 0 0 0 0) (rx_6 0 0 0 0 0 0) (rx_6 0 0 0 0 0 0) (rx_6 0 0 0 0 0 0) (rx_6 2 0 0 0 0 0) (rx_6 (-1) 0 (-1) (-1) 0 0) (rx_6 (-1) (-1) (-1) (-1) 0 0) (rx_6 x 0 z 0 0 0) (rx_6 y z 0 0 0 0) (rx_6 2 (-1) 0 (-1) 0 0) := by
  refine br_f (by decide +kernel) ?_
  refine br_f (by decide +kernel) ?_
  refine br_t (by decide +kernel) ?_
  refine rx_ret_12 ?_
  refine nm_r (e' := (0 : Int32)) (by decide +kernel) ?_
  refine br_f (by decide +kernel) ?_
  refine br_t (by decide +kernel) ?_
  refine rx_com_12 ?_
  refine rx_beg_12 ?_
  refine rx_iss_12 ?_
  refine nm_r (e' := (5 : Int32)) (by decide +kernel) ?_
  exact hp
theorem rx_cy17 {post : Int32 → St2 → Prop} {n : Nat} {x y z kd : Int32} {c : Nat → Int32} (hz : 0 ≤ z)
    (hp : wX_finish_28 post 9 n 1 6 3 1 1 1 kd 3 0 1 3 (rx_6 2 5 4 0 0 0) (rx_6 18 14 12 0 0 0) (rx_6 0 0 0 0 0 0) (rx_6 x y (x * y) z 0 0) c (rx_6 2 5 4 9 0 0) (rx_6 0 1 2 3 0 0) (rx_6 2 2 0 1 0 0) (rx_6 0 0 0 0 0 0) (rx_6 (x * y) 0 0 0 0 0) (rx_6 0 (z &&& 7) 0 0 0 0) (rx_6 0 0 0 0 0 0) (rx_6 0 0 0 0 0 0) (rx_6 2 0 0 0 0 0) (rx_6 (-1) (-1) (-1) (-1) 0 0) (rx_6 (-1) (-1) (-1) (-1) 0 0) (rx_6 x (x * y) z 0 0 0) (rx_6 y z 0 0 0 0) (rx_6 2 (-1) (-1) (-1) 0 0)) :
    wX_finish_28 post 9 (n + 1) 0 5 3 0 1 0 kd 3 0 0 4 (rx_6 2 5 4 0 0 0) (rx_6 18 14 12 0 0 0) (rx_6 0 0 0 0 0 0) (rx_6 x y 0 z 0 0) c (rx_6 2 5 4 9 0 0) (rx_6 0 1 2 3 0 0) (rx_6 2 1 0 1 0 0) (rx_6 0 1 0 1 0 0) (rx_6 (x * y) 0 0 0 0 0) (rx_6 0 0 0 0 0 0) (rx_6 0 0 0 0 0 0) (rx_6 0 0 0 0 0 0) (rx_6 2 0 0 0 0 0) (rx_6 (-1) (-1) (-1) (-1) 0 0) (rx_6 (-1) (-1) (-1) (-1) 0 0) (rx_6 x (x * y) z 0 0 0) (rx_6 y z 0 0 0 0) (rx_6 2 (-1) 0 (-1) 0 0) := by
  refine br_f (by decide +kernel) ?_
  refine br_f (by decide +kernel) ?_
  refine br_t (by decide +kernel) ?_
  refine rx_ret_13 ?_
  refine nm_r (e' := (1 : Int32)) (by decide +kernel) ?_
  refine br_f (by decide +kernel) ?_
  refine br_t (by decide +kernel) ?_
  refine rx_com_13 hz ?_
  refine rx_beg_13 ?_
  refine rx_iss_13 ?_
  refine nm_r (e' := (6 : Int32)) (by decide +kernel) ?_
  exact hp
theorem rx_cy18 {post : Int32 → St2 → Prop} {n : Nat} {x y z kd : Int32} {c : Nat → Int32}
    (hp : wX_finish_28 post 9 n 2 7 3 2 1 2 kd 3 0 2 2 (rx_6 2 5 4 0 0 0) (rx_6 18 14 12 0 0 0) (rx_6 0 0 0 0 0 0) (rx_6 x y (x * y) z 0 0) (upd c (z &&& 7).toNatClampNeg (x * y)) (rx_6 2 5 4 9 0 0) (rx_6 0 1 2 3 0 0) (rx_6 2 2 1 2 0 0) (rx_6 0 0 2 0 0 0) (rx_6 (x * y) 0 0 0 0 0) (rx_6 0 (z &&& 7) 0 0 0 0) (rx_6 0 0 0 1 0 0) (rx_6 0 0 0 0 0 0) (rx_6 2 0 0 0 0 0) (rx_6 (-1) (-1) (-1) (-1) 0 0) (rx_6 (-1) (-1) (-1) (-1) 0 0) (rx_6 x (x * y) z 0 0 0) (rx_6 y z 0 0 0 0) (rx_6 2 (-1) (-1) (-1) 0 0)) :
    wX_finish_28 post 9 (n + 1) 1 6 3 1 1 1 kd 3 0 1 3 (rx_6 2 5 4 0 0 0) (rx_6 18 14 12 0 0 0) (rx_6 0 0 0 0 0 0) (rx_6 x y (x * y) z 0 0) c (rx_6 2 5 4 9 0 0) (rx_6 0 1 2 3 0 0) (rx_6 2 2 0 1 0 0) (rx_6 0 0 0 0 0 0) (rx_6 (x * y) 0 0 0 0 0) (rx_6 0 (z &&& 7) 0 0 0 0) (rx_6 0 0 0 0 0 0) (rx_6 0 0 0 0 0 0) (rx_6 2 0 0 0 0 0) (rx_6 (-1) (-1) (-1) (-1) 0 0) (rx_6 (-1) (-1) (-1) (-1) 0 0) (rx_6 x (x * y) z 0 0 0) (rx_6 y z 0 0 0 0) (rx_6 2 (-1) (-1) (-1) 0 0) := by
  refine br_f (by decide +kernel) ?_
  refine br_f (by decide +kernel) ?_
  refine br_t (by decide +kernel) ?_
  refine rx_ret_14 (rx_and7 z) ?_
  refine nm_r (e' := (2 : Int32)) (by decide +kernel) ?_
  refine br_f (by decide +kernel) ?_
  refine br_t (by decide +kernel) ?_
  refine rx_com_14 ?_
  refine rx_beg_14 ?_
  refine rx_iss_5 ?_
  refine nm_r (e' := (7 : Int32)) (by decide +kernel) ?_
  exact hp
theorem rx_cy19 {post : Int32 → St2 → Prop} {n : Nat} {x y z kd : Int32} {c : Nat → Int32}
    (hp : wX_finish_28 post 9 n 2 8 3 2 1 2 kd 3 0 2 2 (rx_6 2 5 4 0 0 0) (rx_6 18 14 12 0 0 0) (rx_6 0 0 0 0 0 0) (rx_6 x y (x * y) z 0 0) (upd c (z &&& 7).toNatClampNeg (x * y)) (rx_6 2 5 4 9 0 0) (rx_6 0 1 2 3 0 0) (rx_6 2 2 1 2 0 0) (rx_6 0 0 1 0 0 0) (rx_6 (x * y) 0 0 0 0 0) (rx_6 0 (z &&& 7) 0 0 0 0) (rx_6 0 0 0 1 0 0) (rx_6 0 0 0 0 0 0) (rx_6 2 0 0 0 0 0) (rx_6 (-1) (-1) (-1) (-1) 0 0) (rx_6 (-1) (-1) (-1) (-1) 0 0) (rx_6 x (x * y) z 0 0 0) (rx_6 y z 0 0 0 0) (rx_6 2 (-1) (-1) (-1) 0 0)) :
    wX_finish_28 post 9 (n + 1) 2 7 3 2 1 2 kd 3 0 2 2 (rx_6 2 5 4 0 0 0) (rx_6 18 14 12 0 0 0) (rx_6 0 0 0 0 0 0) (rx_6 x y (x * y) z 0 0) (upd c (z &&& 7).toNatClampNeg (x * y)) (rx_6 2 5 4 9 0 0) (rx_6 0 1 2 3 0 0) (rx_6 2 2 1 2 0 0) (rx_6 0 0 2 0 0 0) (rx_6 (x * y) 0 0 0 0 0) (rx_6 0 (z &&& 7) 0 0 0 0) (rx_6 0 0 0 1 0 0) (rx_6 0 0 0 0 0 0) (rx_6 2 0 0 0 0 0) (rx_6 (-1) (-1) (-1) (-1) 0 0) (rx_6 (-1) (-1) (-1) (-1) 0 0) (rx_6 x (x * y) z 0 0 0) (rx_6 y z 0 0 0 0) (rx_6 2 (-1) (-1) (-1) 0 0) := by
  refine br_f (by decide +kernel) ?_
  refine br_f (by decide +kernel) ?_
  refine br_t (by decide +kernel) ?_
  refine rx_ret_7 ?_
  refine nm_r (e' := (2 : Int32)) (by decide +kernel) ?_
  refine br_f (by decide +kernel) ?_
  refine br_t (by decide +kernel) ?_
  refine rx_com_15 ?_
  refine rx_beg_15 ?_
  refine rx_iss_5 ?_
  refine nm_r (e' := (8 : Int32)) (by decide +kernel) ?_
  exact hp
theorem rx_cy20 {post : Int32 → St2 → Prop} {n : Nat} {x y z kd : Int32} {c : Nat → Int32} (hz : 0 ≤ z)
    (hp : wX_finish_28 post 9 n 2 9 3 2 1 2 kd 3 0 2 2 (rx_6 2 5 4 0 0 0) (rx_6 18 14 12 0 0 0) (rx_6 0 0 0 0 0 0) (rx_6 x y (x * y) z 0 0) (upd c (z &&& 7).toNatClampNeg (x * y)) (rx_6 2 5 4 9 0 0) (rx_6 0 1 2 3 0 0) (rx_6 2 2 2 2 0 0) (rx_6 0 0 0 0 0 0) (rx_6 (x * y) 0 ((upd c (z &&& 7).toNatClampNeg (x * y)) (z &&& 7).toNatClampNeg) 0 0 0) (rx_6 0 (z &&& 7) 0 0 0 0) (rx_6 0 0 0 1 0 0) (rx_6 0 0 0 0 0 0) (rx_6 2 0 0 0 0 0) (rx_6 (-1) (-1) (-1) (-1) 0 0) (rx_6 (-1) (-1) (-1) (-1) 0 0) (rx_6 x (x * y) z 0 0 0) (rx_6 y z 0 0 0 0) (rx_6 2 (-1) (-1) (-1) 0 0)) :
    wX_finish_28 post 9 (n + 1) 2 8 3 2 1 2 kd 3 0 2 2 (rx_6 2 5 4 0 0 0) (rx_6 18 14 12 0 0 0) (rx_6 0 0 0 0 0 0) (rx_6 x y (x * y) z 0 0) (upd c (z &&& 7).toNatClampNeg (x * y)) (rx_6 2 5 4 9 0 0) (rx_6 0 1 2 3 0 0) (rx_6 2 2 1 2 0 0) (rx_6 0 0 1 0 0 0) (rx_6 (x * y) 0 0 0 0 0) (rx_6 0 (z &&& 7) 0 0 0 0) (rx_6 0 0 0 1 0 0) (rx_6 0 0 0 0 0 0) (rx_6 2 0 0 0 0 0) (rx_6 (-1) (-1) (-1) (-1) 0 0) (rx_6 (-1) (-1) (-1) (-1) 0 0) (rx_6 x (x * y) z 0 0 0) (rx_6 y z 0 0 0 0) (rx_6 2 (-1) (-1) (-1) 0 0) := by
  refine br_f (by decide +kernel) ?_
  refine br_f (by decide +kernel) ?_
  refine br_t (by decide +kernel) ?_
  refine rx_ret_7 ?_
  refine nm_r (e' := (2 : Int32)) (by decide +kernel) ?_
  refine br_f (by decide +kernel) ?_
  refine br_t (by decide +kernel) ?_
  refine rx_com_16 hz ?_
  refine rx_beg_16 ?_
  refine rx_iss_5 ?_
  refine nm_r (e' := (9 : Int32)) (by decide +kernel) ?_
  exact hp
theorem rx_cy21 {post : Int32 → St2 → Prop} {n : Nat} {x y z kd : Int32} {c : Nat → Int32}
    (hp : wX_finish_28 post 9 n 3 10 3 3 1 3 kd 3 0 3 1 (rx_6 2 5 4 0 0 0) (rx_6 18 14 12 0 0 0) (rx_6 0 0 0 0 0 0) (rx_6 ((upd c (z &&& 7).toNatClampNeg (x * y)) (z &&& 7).toNatClampNeg) y (x * y) z 0 0) (upd c (z &&& 7).toNatClampNeg (x * y)) (rx_6 2 5 4 9 0 0) (rx_6 0 1 2 3 0 0) (rx_6 2 2 2 2 0 0) (rx_6 0 0 0 0 0 0) (rx_6 (x * y) 0 ((upd c (z &&& 7).toNatClampNeg (x * y)) (z &&& 7).toNatClampNeg) 0 0 0) (rx_6 0 (z &&& 7) 0 0 0 0) (rx_6 0 0 0 1 0 0) (rx_6 0 0 0 0 0 0) (rx_6 2 0 0 0 0 0) (rx_6 (-1) (-1) (-1) (-1) 0 0) (rx_6 (-1) (-1) (-1) (-1) 0 0) (rx_6 x (x * y) z 0 0 0) (rx_6 y z 0 0 0 0) (rx_6 (-1) (-1) (-1) (-1) 0 0)) :
    wX_finish_28 post 9 (n + 1) 2 9 3 2 1 2 kd 3 0 2 2 (rx_6 2 5 4 0 0 0) (rx_6 18 14 12 0 0 0) (rx_6 0 0 0 0 0 0) (rx_6 x y (x * y) z 0 0) (upd c (z &&& 7).toNatClampNeg (x * y)) (rx_6 2 5 4 9 0 0) (rx_6 0 1 2 3 0 0) (rx_6 2 2 2 2 0 0) (rx_6 0 0 0 0 0 0) (rx_6 (x * y) 0 ((upd c (z &&& 7).toNatClampNeg (x * y)) (z &&& 7).toNatClampNeg) 0 0 0) (rx_6 0 (z &&& 7) 0 0 0 0) (rx_6 0 0 0 1 0 0) (rx_6 0 0 0 0 0 0) (rx_6 2 0 0 0 0 0) (rx_6 (-1) (-1) (-1) (-1) 0 0) (rx_6 (-1) (-1) (-1) (-1) 0 0) (rx_6 x (x * y) z 0 0 0) (rx_6 y z 0 0 0 0) (rx_6 2 (-1) (-1) (-1) 0 0) := by
  refine br_f (by decide +kernel) ?_
  refine br_f (by decide +kernel) ?_
  refine br_t (by decide +kernel) ?_
  refine rx_ret_15 ?_
  refine nm_r (e' := (3 : Int32)) (by decide +kernel) ?_
  refine br_f (by decide +kernel) ?_
  refine br_t (by decide +kernel) ?_
  refine rx_com_8 ?_
  refine rx_beg_17 ?_
  refine rx_iss_6 ?_
  refine nm_r (e' := (10 : Int32)) (by decide +kernel) ?_
  exact hp
theorem rx_cy22 {post : Int32 → St2 → Prop} {n : Nat} {x y z kd : Int32} {c : Nat → Int32}
    (hp : wX_finish_28 post 9 n 3 11 3 3 3 3 kd 3 0 3 1 (rx_6 2 5 4 0 0 0) (rx_6 18 14 12 0 0 0) (rx_6 0 0 0 0 0 0) (rx_6 ((upd c (z &&& 7).toNatClampNeg (x * y)) (z &&& 7).toNatClampNeg) y (x * y) z 0 0) (upd c (z &&& 7).toNatClampNeg (x * y)) (rx_6 2 5 4 9 0 0) (rx_6 0 1 2 3 0 0) (rx_6 2 2 2 2 0 0) (rx_6 0 0 0 0 0 0) (rx_6 (x * y) 0 ((upd c (z &&& 7).toNatClampNeg (x * y)) (z &&& 7).toNatClampNeg) 0 0 0) (rx_6 0 (z &&& 7) 0 0 0 0) (rx_6 0 0 0 1 0 0) (rx_6 0 0 0 0 0 0) (rx_6 2 0 0 0 0 0) (rx_6 (-1) (-1) (-1) (-1) 0 0) (rx_6 (-1) (-1) (-1) (-1) 0 0) (rx_6 x (x * y) z 0 0 0) (rx_6 y z 0 0 0 0) (rx_6 (-1) (-1) (-1) (-1) 0 0)) :
    wX_finish_28 post 9 (n + 1) 3 10 3 3 1 3 kd 3 0 3 1 (rx_6 2 5 4 0 0 0) (rx_6 18 14 12 0 0 0) (rx_6 0 0 0 0 0 0) (rx_6 ((upd c (z &&& 7).toNatClampNeg (x * y)) (z &&& 7).toNatClampNeg) y (x * y) z 0 0) (upd c (z &&& 7).toNatClampNeg (x * y)) (rx_6 2 5 4 9 0 0) (rx_6 0 1 2 3 0 0) (rx_6 2 2 2 2 0 0) (rx_6 0 0 0 0 0 0) (rx_6 (x * y) 0 ((upd c (z &&& 7).toNatClampNeg (x * y)) (z &&& 7).toNatClampNeg) 0 0 0) (rx_6 0 (z &&& 7) 0 0 0 0) (rx_6 0 0 0 1 0 0) (rx_6 0 0 0 0 0 0) (rx_6 2 0 0 0 0 0) (rx_6 (-1) (-1) (-1) (-1) 0 0) (rx_6 (-1) (-1) (-1) (-1) 0 0) (rx_6 x (x * y) z 0 0 0) (rx_6 y z 0 0 0 0) (rx_6 (-1) (-1) (-1) (-1) 0 0) := by
  refine br_f (by decide +kernel) ?_
  refine br_f (by decide +kernel) ?_
  refine br_t (by decide +kernel) ?_
  refine rx_ret_9 ?_
  refine nm_r (e' := (3 : Int32)) (by decide +kernel) ?_
  refine br_f (by decide +kernel) ?_
  refine br_f (by decide +kernel) ?_
  refine nm_r (e' := (11 : Int32)) (by decide +kernel) ?_
  exact hp
theorem rx_cy23 {post : Int32 → St2 → Prop} {n : Nat} {x y z kd : Int32} {c : Nat → Int32} (hz : ¬ 0 ≤ z)
    (hp : wX_finish_28 post 9 n 1 6 3 1 1 1 kd 3 0 1 3 (rx_6 2 5 4 0 0 0) (rx_6 18 14 12 0 0 0) (rx_6 0 0 0 0 0 0) (rx_6 x y (x * y) z 0 0) c (rx_6 2 5 4 9 0 0) (rx_6 0 1 2 3 0 0) (rx_6 2 2 0 1 0 0) (rx_6 0 0 0 0 0 0) (rx_6 (x * y) 0 0 0 0 0) (rx_6 0 (z &&& 7) 0 0 0 0) (rx_6 0 1 0 0 0 0) (rx_6 0 0 0 0 0 0) (rx_6 2 0 0 0 0 0) (rx_6 (-1) (-1) (-1) (-1) 0 0) (rx_6 (-1) (-1) (-1) (-1) 0 0) (rx_6 x (x * y) z 0 0 0) (rx_6 y z 0 0 0 0) (rx_6 2 (-1) (-1) (-1) 0 0)) :
    wX_finish_28 post 9 (n + 1) 0 5 3 0 1 0 kd 3 0 0 4 (rx_6 2 5 4 0 0 0) (rx_6 18 14 12 0 0 0) (rx_6 0 0 0 0 0 0) (rx_6 x y 0 z 0 0) c (rx_6 2 5 4 9 0 0) (rx_6 0 1 2 3 0 0) (rx_6 2 1 0 1 0 0) (rx_6 0 1 0 1 0 0) (rx_6 (x * y) 0 0 0 0 0) (rx_6 0 0 0 0 0 0) (rx_6 0 0 0 0 0 0) (rx_6 0 0 0 0 0 0) (rx_6 2 0 0 0 0 0) (rx_6 (-1) (-1) (-1) (-1) 0 0) (rx_6 (-1) (-1) (-1) (-1) 0 0) (rx_6 x (x * y) z 0 0 0) (rx_6 y z 0 0 0 0) (rx_6 2 (-1) 0 (-1) 0 0) := by
  refine br_f (by decide +kernel) ?_
  refine br_f (by decide +kernel) ?_
  refine br_t (by decide +kernel) ?_
  refine rx_ret_13 ?_
  refine nm_r (e' := (1 : Int32)) (by decide +kernel) ?_
  refine br_f (by decide +kernel) ?_
  refine br_t (by decide +kernel) ?_
  refine rx_com_17 hz ?_
  refine rx_beg_13 ?_
  refine rx_iss_13 ?_
  refine nm_r (e' := (6 : Int32)) (by decide +kernel) ?_
  exact hp
theorem rx_cy24 {post : Int32 → St2 → Prop} {n : Nat} {x y z kd : Int32} {c : Nat → Int32}
    (hp : wX_finish_28 post 9 n 1 7 3 1 3 1 kd 3 0 1 3 (rx_6 2 5 4 0 0 0) (rx_6 18 14 12 0 0 0) (rx_6 0 0 0 0 0 0) (rx_6 x y (x * y) z 0 0) c (rx_6 2 5 4 9 0 0) (rx_6 0 1 2 3 0 0) (rx_6 2 2 0 1 0 0) (rx_6 0 0 0 0 0 0) (rx_6 (x * y) 0 0 0 0 0) (rx_6 0 (z &&& 7) 0 0 0 0) (rx_6 0 1 0 0 0 0) (rx_6 0 0 0 0 0 0) (rx_6 2 0 0 0 0 0) (rx_6 (-1) (-1) (-1) (-1) 0 0) (rx_6 (-1) (-1) (-1) (-1) 0 0) (rx_6 x (x * y) z 0 0 0) (rx_6 y z 0 0 0 0) (rx_6 2 (-1) (-1) (-1) 0 0)) :
    wX_finish_28 post 9 (n + 1) 1 6 3 1 1 1 kd 3 0 1 3 (rx_6 2 5 4 0 0 0) (rx_6 18 14 12 0 0 0) (rx_6 0 0 0 0 0 0) (rx_6 x y (x * y) z 0 0) c (rx_6 2 5 4 9 0 0) (rx_6 0 1 2 3 0 0) (rx_6 2 2 0 1 0 0) (rx_6 0 0 0 0 0 0) (rx_6 (x * y) 0 0 0 0 0) (rx_6 0 (z &&& 7) 0 0 0 0) (rx_6 0 1 0 0 0 0) (rx_6 0 0 0 0 0 0) (rx_6 2 0 0 0 0 0) (rx_6 (-1) (-1) (-1) (-1) 0 0) (rx_6 (-1) (-1) (-1) (-1) 0 0) (rx_6 x (x * y) z 0 0 0) (rx_6 y z 0 0 0 0) (rx_6 2 (-1) (-1) (-1) 0 0) := by
  refine br_f (by decide +kernel) ?_
  refine br_f (by decide +kernel) ?_
  refine br_t (by decide +kernel) ?_
  refine rx_ret_16 ?_
  refine nm_r (e' := (1 : Int32)) (by decide +kernel) ?_
  refine br_f (by decide +kernel) ?_
  refine br_f (by decide +kernel) ?_
  refine nm_r (e' := (7 : Int32)) (by decide +kernel) ?_
  exact hp
theorem rx_cy25 {post : Int32 → St2 → Prop} {n : Nat} {x y z kd : Int32} {c : Nat → Int32}
    (hp : wX_finish_28 post 9 n 0 1 3 0 1 0 kd 1 1 0 1 (rx_6 3 5 4 0 0 0) (rx_6 18 14 12 0 0 0) (rx_6 0 0 0 0 0 0) (rx_6 x y 0 z 0 0) c (rx_6 3 0 0 0 0 0) (rx_6 0 0 0 0 0 0) (rx_6 0 0 0 0 0 0) (rx_6 0 0 0 0 0 0) (rx_6 0 0 0 0 0 0) (rx_6 0 0 0 0 0 0) (rx_6 0 0 0 0 0 0) (rx_6 0 0 0 0 0 0) (rx_6 2 0 0 0 0 0) (rx_6 (-1) 0 0 0 0 0) (rx_6 (-1) 0 0 0 0 0) (rx_6 x 0 0 0 0 0) (rx_6 y 0 0 0 0 0) (rx_6 (-1) (-1) 0 (-1) 0 0)) :
    wX_finish_28 post 9 (n + 1) 0 0 3 0 1 0 kd 0 1 0 0 (rx_6 3 5 4 0 0 0) (rx_6 18 14 12 0 0 0) (rx_6 0 0 0 0 0 0) (rx_6 x y 0 z 0 0) c (rx_6 0 0 0 0 0 0) (rx_6 0 0 0 0 0 0) (rx_6 0 0 0 0 0 0) (rx_6 0 0 0 0 0 0) (rx_6 0 0 0 0 0 0) (rx_6 0 0 0 0 0 0) (rx_6 0 0 0 0 0 0) (rx_6 0 0 0 0 0 0) (rx_6 0 0 0 0 0 0) (rx_6 0 0 0 0 0 0) (rx_6 0 0 0 0 0 0) (rx_6 0 0 0 0 0 0) (rx_6 0 0 0 0 0 0) (rx_6 (-1) (-1) (-1) (-1) 0 0) := by
  refine br_f (by decide +kernel) ?_
  refine br_f (by decide +kernel) ?_
  refine br_t (by decide +kernel) ?_
  refine rx_ret_1 ?_
  refine nm_r (e' := (0 : Int32)) (by decide +kernel) ?_
  refine br_f (by decide +kernel) ?_
  refine br_t (by decide +kernel) ?_
  refine rx_com_1 ?_
  refine rx_beg_1 ?_
  refine rx_iss_14 ?_
  refine nm_r (e' := (1 : Int32)) (by decide +kernel) ?_
  exact hp
theorem rx_cy26 {post : Int32 → St2 → Prop} {n : Nat} {x y z kd : Int32} {c : Nat → Int32}
    (hp : wX_finish_28 post 9 n 0 2 3 0 1 0 kd 2 1 0 2 (rx_6 3 5 4 0 0 0) (rx_6 18 14 12 0 0 0) (rx_6 0 0 0 0 0 0) (rx_6 x y 0 z 0 0) c (rx_6 3 5 0 0 0 0) (rx_6 0 1 0 0 0 0) (rx_6 1 0 0 0 0 0) (rx_6 5 0 0 0 0 0) (rx_6 0 0 0 0 0 0) (rx_6 0 0 0 0 0 0) (rx_6 0 0 0 0 0 0) (rx_6 0 0 0 0 0 0) (rx_6 2 0 0 0 0 0) (rx_6 (-1) 0 0 0 0 0) (rx_6 (-1) (-1) 0 0 0 0) (rx_6 x 0 0 0 0 0) (rx_6 y z 0 0 0 0) (rx_6 (-1) (-1) 0 (-1) 0 0)) :
    wX_finish_28 post 9 (n + 1) 0 1 3 0 1 0 kd 1 1 0 1 (rx_6 3 5 4 0 0 0) (rx_6 18 14 12 0 0 0) (rx_6 0 0 0 0 0 0) (rx_6 x y 0 z 0 0) c (rx_6 3 0 0 0 0 0) (rx_6 0 0 0 0 0 0) (rx_6 0 0 0 0 0 0) (rx_6 0 0 0 0 0 0) (rx_6 0 0 0 0 0 0) (rx_6 0 0 0 0 0 0) (rx_6 0 0 0 0 0 0) (rx_6 0 0 0 0 0 0) (rx_6 2 0 0 0 0 0) (rx_6 (-1) 0 0 0 0 0) (rx_6 (-1) 0 0 0 0 0) (rx_6 x 0 0 0 0 0) (rx_6 y 0 0 0 0 0) (rx_6 (-1) (-1) 0 (-1) 0 0) := by
  refine br_f (by decide +kernel) ?_
  refine br_f (by decide +kernel) ?_
  refine br_t (by decide +kernel) ?_
  refine rx_ret_2 ?_
  refine nm_r (e' := (0 : Int32)) (by decide +kernel) ?_
  refine br_f (by decide +kernel) ?_
  refine br_t (by decide +kernel) ?_
  refine rx_com_2 ?_
  refine rx_beg_18 ?_
  refine rx_iss_15 ?_
  refine nm_r (e' := (2 : Int32)) (by decide +kernel) ?_
  exact hp
theorem rx_cy27 {post : Int32 → St2 → Prop} {n : Nat} {x y z kd : Int32} {c : Nat → Int32}
    (hp : wX_finish_28 post 9 n 0 3 3 0 1 0 kd 3 1 0 3 (rx_6 3 5 4 0 0 0) (rx_6 18 14 12 0 0 0) (rx_6 0 0 0 0 0 0) (rx_6 x y 0 z 0 0) c (rx_6 3 5 4 0 0 0) (rx_6 0 1 2 0 0 0) (rx_6 1 0 0 0 0 0) (rx_6 4 0 0 0 0 0) (rx_6 0 0 0 0 0 0) (rx_6 0 0 0 0 0 0) (rx_6 0 0 0 0 0 0) (rx_6 0 0 0 0 0 0) (rx_6 2 0 0 0 0 0) (rx_6 (-1) 0 (-1) 0 0 0) (rx_6 (-1) (-1) (-1) 0 0 0) (rx_6 x 0 z 0 0 0) (rx_6 y z 0 0 0 0) (rx_6 2 (-1) 0 (-1) 0 0)) :
    wX_finish_28 post 9 (n + 1) 0 2 3 0 1 0 kd 2 1 0 2 (rx_6 3 5 4 0 0 0) (rx_6 18 14 12 0 0 0) (rx_6 0 0 0 0 0 0) (rx_6 x y 0 z 0 0) c (rx_6 3 5 0 0 0 0) (rx_6 0 1 0 0 0 0) (rx_6 1 0 0 0 0 0) (rx_6 5 0 0 0 0 0) (rx_6 0 0 0 0 0 0) (rx_6 0 0 0 0 0 0) (rx_6 0 0 0 0 0 0) (rx_6 0 0 0 0 0 0) (rx_6 2 0 0 0 0 0) (rx_6 (-1) 0 0 0 0 0) (rx_6 (-1) (-1) 0 0 0 0) (rx_6 x 0 0 0 0 0) (rx_6 y z 0 0 0 0) (rx_6 (-1) (-1) 0 (-1) 0 0) := by
  refine br_f (by decide +kernel) ?_
  refine br_f (by decide +kernel) ?_
  refine br_t (by decide +kernel) ?_
  refine rx_ret_3 ?_
  refine nm_r (e' := (0 : Int32)) (by decide +kernel) ?_
  refine br_f (by decide +kernel) ?_
  refine br_t (by decide +kernel) ?_
  refine rx_com_18 ?_
  refine rx_beg_19 ?_
  refine rx_iss_16 ?_
  refine nm_r (e' := (3 : Int32)) (by decide +kernel) ?_
  exact hp
theorem rx_cy28 {post : Int32 → St2 → Prop} {n : Nat} {x y z kd : Int32} {c : Nat → Int32}
    (hp : wX_finish_28 post 9 n 0 4 3 0 1 0 kd 3 0 0 4 (rx_6 3 5 4 0 0 0) (rx_6 18 14 12 0 0 0) (rx_6 0 0 0 0 0 0) (rx_6 x y 0 z 0 0) c (rx_6 3 5 4 9 0 0) (rx_6 0 1 2 3 0 0) (rx_6 1 0 0 0 0 0) (rx_6 3 0 0 0 0 0) (rx_6 0 0 0 0 0 0) (rx_6 0 0 0 0 0 0) (rx_6 0 0 0 0 0 0) (rx_6 0 0 0 0 0 0) (rx_6 2 0 0 0 0 0) (rx_6 (-1) 0 (-1) (-1) 0 0) (rx_6 (-1) (-1) (-1) (-1) 0 0) (rx_6 x 0 z 0 0 0) (rx_6 y z 0 0 0 0) (rx_6 2 (-1) 0 (-1) 0 0)) :
    wX_finish_28 post 9 (n + 1) 0 3 3 0 1 0 kd 3 1 0 3 (rx_6 3 5 4 0 0 0) (rx_6 18 14 12 0 0 0) (rx_6 0 0 0 0 0 0) (rx_6 x y 0 z 0 0) c (rx_6 3 5 4 0 0 0) (rx_6 0 1 2 0 0 0) (rx_6 1 0 0 0 0 0) (rx_6 4 0 0 0 0 0) (rx_6 0 0 0 0 0 0) (rx_6 0 0 0 0 0 0) (rx_6 0 0 0 0 0 0) (rx_6 0 0 0 0 0 0) (rx_6 2 0 0 0 0 0) (rx_6 (-1) 0 (-1) 0 0 0) (rx_6 (-1) (-1) (-1) 0 0 0) (rx_6 x 0 z 0 0 0) (rx_6 y z 0 0 0 0) (rx_6 2 (-1) 0 (-1) 0 0) := by
  refine br_f (by decide +kernel) ?_
  refine br_f (by decide +kernel) ?_
  refine br_t (by decide +kernel) ?_
  refine rx_ret_11 ?_
  refine nm_r (e' := (0 : Int32)) (by decide +kernel) ?_
  refine br_f (by decide +kernel) ?_
  refine br_t (by decide +kernel) ?_
  refine rx_com_19 ?_
  refine rx_beg_20 ?_
  refine rx_iss_17 ?_
  refine nm_r (e' := (4 : Int32)) (by decide +kernel) ?_
  exact hp
theorem rx_cy29 {post : Int32 → St2 → Prop} {n : Nat} {x y z kd : Int32} {c : Nat → Int32}
    (hp : wX_finish_28 post 9 n 0 5 3 0 1 0 kd 3 0 0 4 (rx_6 3 5 4 0 0 0) (rx_6 18 14 12 0 0 0) (rx_6 0 0 0 0 0 0) (rx_6 x y 0 z 0 0) c (rx_6 3 5 4 9 0 0) (rx_6 0 1 2 3 0 0) (rx_6 1 0 0 1 0 0) (rx_6 2 0 0 1 0 0) (rx_6 0 0 0 0 0 0) (rx_6 0 0 0 0 0 0) (rx_6 0 0 0 0 0 0) (rx_6 0 0 0 0 0 0) (rx_6 2 0 0 0 0 0) (rx_6 (-1) 0 (-1) (-1) 0 0) (rx_6 (-1) (-1) (-1) (-1) 0 0) (rx_6 x 0 z 0 0 0) (rx_6 y z 0 0 0 0) (rx_6 2 (-1) 0 (-1) 0 0)) :
    wX_finish_28 post 9 (n + 1) 0 4 3 0 1 0 kd 3 0 0 4 (rx_6 3 5 4 0 0 0) (rx_6 18 14 12 0 0 0) (rx_6 0 0 0 0 0 0) (rx_6 x y 0 z 0 0) c (rx_6 3 5 4 9 0 0) (rx_6 0 1 2 3 0 0) (rx_6 1 0 0 0 0 0) (rx_6 3 0 0 0 0 0) (rx_6 0 0 0 0 0 0) (rx_6 0 0 0 0 0 0) (rx_6 0 0 0 0 0 0) (rx_6 0 0 0 0 0 0) (rx_6 2 0 0 0 0 0) (rx_6 (-1) 0 (-1) (-1) 0 0) (rx_6 (-1) (-1) (-1) (-1) 0 0) (rx_6 x 0 z 0 0 0) (rx_6 y z 0 0 0 0) (rx_6 2 (-1) 0 (-1) 0 0) := by
  refine br_f (by decide +kernel) ?_
  refine br_f (by decide +kernel) ?_
  refine br_t (by decide +kernel) ?_
  refine rx_ret_12 ?_
  refine nm_r (e' := (0 : Int32)) (by decide +kernel) ?_
  refine br_f (by decide +kernel) ?_
  refine br_t (by decide +kernel) ?_
  refine rx_com_20 ?_
  refine rx_beg_21 ?_
  refine rx_iss_12 ?_
  refine nm_r (e' := (5 : Int32)) (by decide +kernel) ?_
  exact hp
theorem rx_cy30 {post : Int32 → St2 → Prop} {n : Nat} {x y z kd : Int32} {c : Nat → Int32}
    (hp : wX_finish_28 post 9 n 0 6 3 0 1 0 kd 3 0 0 4 (rx_6 3 5 4 0 0 0) (rx_6 18 14 12 0 0 0) (rx_6 0 0 0 0 0 0) (rx_6 x y 0 z 0 0) c (rx_6 3 5 4 9 0 0) (rx_6 0 1 2 3 0 0) (rx_6 1 0 0 2 0 0) (rx_6 1 0 0 0 0 0) (rx_6 0 0 0 0 0 0) (rx_6 0 0 0 0 0 0) (rx_6 0 0 0 1 0 0) (rx_6 0 0 0 0 0 0) (rx_6 2 0 0 0 0 0) (rx_6 (-1) 0 (-1) (-1) 0 0) (rx_6 (-1) (-1) (-1) (-1) 0 0) (rx_6 x 0 z 0 0 0) (rx_6 y z 0 0 0 0) (rx_6 2 (-1) 0 (-1) 0 0)) :
    wX_finish_28 post 9 (n + 1) 0 5 3 0 1 0 kd 3 0 0 4 (rx_6 3 5 4 0 0 0) (rx_6 18 14 12 0 0 0) (rx_6 0 0 0 0 0 0) (rx_6 x y 0 z 0 0) c (rx_6 3 5 4 9 0 0) (rx_6 0 1 2 3 0 0) (rx_6 1 0 0 1 0 0) (rx_6 2 0 0 1 0 0) (rx_6 0 0 0 0 0 0) (rx_6 0 0 0 0 0 0) (rx_6 0 0 0 0 0 0) (rx_6 0 0 0 0 0 0) (rx_6 2 0 0 0 0 0) (rx_6 (-1) 0 (-1) (-1) 0 0) (rx_6 (-1) (-1) (-1) (-1) 0 0) (rx_6 x 0 z 0 0 0) (rx_6 y z 0 0 0 0) (rx_6 2 (-1) 0 (-1) 0 0) := by
  refine br_f (by decide +kernel) ?_
  refine br_f (by decide +kernel) ?_
  refine br_t (by decide +kernel) ?_
  refine rx_ret_17 ?_
  refine nm_r (e' := (0 : Int32)) (by decide +kernel) ?_
  refine br_f (by decide +kernel) ?_
  refine br_t (by decide +kernel) ?_
  refine rx_com_21 ?_
  refine rx_beg_22 ?_
  refine rx_iss_12 ?_
  refine nm_r (e' := (6 : Int32)) (by decide +kernel) ?_
  exact hp
theorem rx_cy31 {post : Int32 → St2 → Prop} {n : Nat} {x y z kd : Int32} {c : Nat → Int32} (hy : y = 0)
    (hp : wX_finish_28 post 9 n 0 7 3 0 1 0 kd 3 0 0 4 (rx_6 3 5 4 0 0 0) (rx_6 18 14 12 0 0 0) (rx_6 0 0 0 0 0 0) (rx_6 x y 0 z 0 0) c (rx_6 3 5 4 9 0 0) (rx_6 0 1 2 3 0 0) (rx_6 2 1 0 2 0 0) (rx_6 0 1 0 0 0 0) (rx_6 0 0 0 0 0 0) (rx_6 0 0 0 0 0 0) (rx_6 1 0 0 1 0 0) (rx_6 0 0 0 0 0 0) (rx_6 2 0 0 0 0 0) (rx_6 (-1) (-1) (-1) (-1) 0 0) (rx_6 (-1) (-1) (-1) (-1) 0 0) (rx_6 x 0 z 0 0 0) (rx_6 y z 0 0 0 0) (rx_6 2 (-1) 0 (-1) 0 0)) :
    wX_finish_28 post 9 (n + 1) 0 6 3 0 1 0 kd 3 0 0 4 (rx_6 3 5 4 0 0 0) (rx_6 18 14 12 0 0 0) (rx_6 0 0 0 0 0 0) (rx_6 x y 0 z 0 0) c (rx_6 3 5 4 9 0 0) (rx_6 0 1 2 3 0 0) (rx_6 1 0 0 2 0 0) (rx_6 1 0 0 0 0 0) (rx_6 0 0 0 0 0 0) (rx_6 0 0 0 0 0 0) (rx_6 0 0 0 1 0 0) (rx_6 0 0 0 0 0 0) (rx_6 2 0 0 0 0 0) (rx_6 (-1) 0 (-1) (-1) 0 0) (rx_6 (-1) (-1) (-1) (-1) 0 0) (rx_6 x 0 z 0 0 0) (rx_6 y z 0 0 0 0) (rx_6 2 (-1) 0 (-1) 0 0) := by
  refine br_f (by decide +kernel) ?_
  refine br_f (by decide +kernel) ?_
  refine br_t (by decide +kernel) ?_
  refine rx_ret_18 ?_
  refine nm_r (e' := (0 : Int32)) (by decide +kernel) ?_
  refine br_f (by decide +kernel) ?_
  refine br_t (by decide +kernel) ?_
  refine rx_com_22 hy ?_
  refine rx_beg_23 ?_
  refine rx_iss_12 ?_
  refine nm_r (e' := (7 : Int32)) (by decide +kernel) ?_
  exact hp
theorem rx_cy32 {post : Int32 → St2 → Prop} {n : Nat} {x y z kd : Int32} {c : Nat → Int32}
    (hp : wX_finish_28 post 9 n 0 8 3 0 3 0 kd 3 0 0 4 (rx_6 3 5 4 0 0 0) (rx_6 18 14 12 0 0 0) (rx_6 0 0 0 0 0 0) (rx_6 x y 0 z 0 0) c (rx_6 3 5 4 9 0 0) (rx_6 0 1 2 3 0 0) (rx_6 2 1 0 2 0 0) (rx_6 0 1 0 0 0 0) (rx_6 0 0 0 0 0 0) (rx_6 0 0 0 0 0 0) (rx_6 1 0 0 1 0 0) (rx_6 0 0 0 0 0 0) (rx_6 2 0 0 0 0 0) (rx_6 (-1) (-1) (-1) (-1) 0 0) (rx_6 (-1) (-1) (-1) (-1) 0 0) (rx_6 x 0 z 0 0 0) (rx_6 y z 0 0 0 0) (rx_6 2 (-1) 0 (-1) 0 0)) :
    wX_finish_28 post 9 (n + 1) 0 7 3 0 1 0 kd 3 0 0 4 (rx_6 3 5 4 0 0 0) (rx_6 18 14 12 0 0 0) (rx_6 0 0 0 0 0 0) (rx_6 x y 0 z 0 0) c (rx_6 3 5 4 9 0 0) (rx_6 0 1 2 3 0 0) (rx_6 2 1 0 2 0 0) (rx_6 0 1 0 0 0 0) (rx_6 0 0 0 0 0 0) (rx_6 0 0 0 0 0 0) (rx_6 1 0 0 1 0 0) (rx_6 0 0 0 0 0 0) (rx_6 2 0 0 0 0 0) (rx_6 (-1) (-1) (-1) (-1) 0 0) (rx_6 (-1) (-1) (-1) (-1) 0 0) (rx_6 x 0 z 0 0 0) (rx_6 y z 0 0 0 0) (rx_6 2 (-1) 0 (-1) 0 0) := by
  refine br_f (by decide +kernel) ?_
  refine br_f (by decide +kernel) ?_
  refine br_t (by decide +kernel) ?_
  refine rx_ret_19 ?_
  refine nm_r (e' := (0 : Int32)) (by decide +kernel) ?_
  refine br_f (by decide +kernel) ?_
  refine br_f (by decide +kernel) ?_
  refine nm_r (e' := (8 : Int32)) (by decide +kernel) ?_
  exact hp
theorem rx_cy33 {post : Int32 → St2 → Prop} {n : Nat} {x y z kd : Int32} {c : Nat → Int32} (hy : ¬ y = 0)
    (hp : wX_finish_28 post 9 n 0 7 3 0 1 0 kd 3 0 0 4 (rx_6 3 5 4 0 0 0) (rx_6 18 14 12 0 0 0) (rx_6 0 0 0 0 0 0) (rx_6 x y 0 z 0 0) c (rx_6 3 5 4 9 0 0) (rx_6 0 1 2 3 0 0) (rx_6 2 1 0 2 0 0) (rx_6 0 1 0 0 0 0) (rx_6 (x / y) 0 0 0 0 0) (rx_6 0 0 0 0 0 0) (rx_6 0 0 0 1 0 0) (rx_6 0 0 0 0 0 0) (rx_6 2 0 0 0 0 0) (rx_6 (-1) (-1) (-1) (-1) 0 0) (rx_6 (-1) (-1) (-1) (-1) 0 0) (rx_6 x (x / y) z 0 0 0) (rx_6 y z 0 0 0 0) (rx_6 2 (-1) 0 (-1) 0 0)) :
    wX_finish_28 post 9 (n + 1) 0 6 3 0 1 0 kd 3 0 0 4 (rx_6 3 5 4 0 0 0) (rx_6 18 14 12 0 0 0) (rx_6 0 0 0 0 0 0) (rx_6 x y 0 z 0 0) c (rx_6 3 5 4 9 0 0) (rx_6 0 1 2 3 0 0) (rx_6 1 0 0 2 0 0) (rx_6 1 0 0 0 0 0) (rx_6 0 0 0 0 0 0) (rx_6 0 0 0 0 0 0) (rx_6 0 0 0 1 0 0) (rx_6 0 0 0 0 0 0) (rx_6 2 0 0 0 0 0) (rx_6 (-1) 0 (-1) (-1) 0 0) (rx_6 (-1) (-1) (-1) (-1) 0 0) (rx_6 x 0 z 0 0 0) (rx_6 y z 0 0 0 0) (rx_6 2 (-1) 0 (-1) 0 0) := by
  refine br_f (by decide +kernel) ?_
  refine br_f (by decide +kernel) ?_
  refine br_t (by decide +kernel) ?_
  refine rx_ret_18 ?_
  refine nm_r (e' := (0 : Int32)) (by decide +kernel) ?_
  refine br_f (by decide +kernel) ?_
  refine br_t (by decide +kernel) ?_
  refine rx_com_23 hy ?_
  refine rx_beg_23 ?_
  refine rx_iss_12 ?_
  refine nm_r (e' := (7 : Int32)) (by decide +kernel) ?_
  exact hp
theorem rx_cy34 {post : Int32 → St2 → Prop} {n : Nat} {x y z kd : Int32} {c : Nat → Int32} (hz : 0 ≤ z)
    (hp : wX_finish_28 post 9 n 1 8 3 1 1 1 kd 3 0 1 3 (rx_6 3 5 4 0 0 0) (rx_6 18 14 12 0 0 0) (rx_6 0 0 0 0 0 0) (rx_6 x y (x / y) z 0 0) c (rx_6 3 5 4 9 0 0) (rx_6 0 1 2 3 0 0) (rx_6 2 2 0 2 0 0) (rx_6 0 0 0 0 0 0) (rx_6 (x / y) 0 0 0 0 0) (rx_6 0 (z &&& 7) 0 0 0 0) (rx_6 0 0 0 1 0 0) (rx_6 0 0 0 0 0 0) (rx_6 2 0 0 0 0 0) (rx_6 (-1) (-1) (-1) (-1) 0 0) (rx_6 (-1) (-1) (-1) (-1) 0 0) (rx_6 x (x / y) z 0 0 0) (rx_6 y z 0 0 0 0) (rx_6 2 (-1) (-1) (-1) 0 0)) :
    wX_finish_28 post 9 (n + 1) 0 7 3 0 1 0 kd 3 0 0 4 (rx_6 3 5 4 0 0 0) (rx_6 18 14 12 0 0 0) (rx_6 0 0 0 0 0 0) (rx_6 x y 0 z 0 0) c (rx_6 3 5 4 9 0 0) (rx_6 0 1 2 3 0 0) (rx_6 2 1 0 2 0 0) (rx_6 0 1 0 0 0 0) (rx_6 (x / y) 0 0 0 0 0) (rx_6 0 0 0 0 0 0) (rx_6 0 0 0 1 0 0) (rx_6 0 0 0 0 0 0) (rx_6 2 0 0 0 0 0) (rx_6 (-1) (-1) (-1) (-1) 0 0) (rx_6 (-1) (-1) (-1) (-1) 0 0) (rx_6 x (x / y) z 0 0 0) (rx_6 y z 0 0 0 0) (rx_6 2 (-1) 0 (-1) 0 0) := by
  refine br_f (by decide +kernel) ?_
  refine br_f (by decide +kernel) ?_
  refine br_t (by decide +kernel) ?_
  refine rx_ret_20 ?_
  refine nm_r (e' := (1 : Int32)) (by decide +kernel) ?_
  refine br_f (by decide +kernel) ?_
  refine br_t (by decide +kernel) ?_
  refine rx_com_24 hz ?_
  refine rx_beg_24 ?_
  refine rx_iss_13 ?_
  refine nm_r (e' := (8 : Int32)) (by decide +kernel) ?_
  exact hp
theorem rx_cy35 {post : Int32 → St2 → Prop} {n : Nat} {x y z kd : Int32} {c : Nat → Int32}
    (hp : wX_finish_28 post 9 n 2 9 3 2 1 2 kd 3 0 2 2 (rx_6 3 5 4 0 0 0) (rx_6 18 14 12 0 0 0) (rx_6 0 0 0 0 0 0) (rx_6 x y (x / y) z 0 0) (upd c (z &&& 7).toNatClampNeg (x / y)) (rx_6 3 5 4 9 0 0) (rx_6 0 1 2 3 0 0) (rx_6 2 2 1 2 0 0) (rx_6 0 0 2 0 0 0) (rx_6 (x / y) 0 0 0 0 0) (rx_6 0 (z &&& 7) 0 0 0 0) (rx_6 0 0 0 1 0 0) (rx_6 0 0 0 0 0 0) (rx_6 2 0 0 0 0 0) (rx_6 (-1) (-1) (-1) (-1) 0 0) (rx_6 (-1) (-1) (-1) (-1) 0 0) (rx_6 x (x / y) z 0 0 0) (rx_6 y z 0 0 0 0) (rx_6 2 (-1) (-1) (-1) 0 0)) :
    wX_finish_28 post 9 (n + 1) 1 8 3 1 1 1 kd 3 0 1 3 (rx_6 3 5 4 0 0 0) (rx_6 18 14 12 0 0 0) (rx_6 0 0 0 0 0 0) (rx_6 x y (x / y) z 0 0) c (rx_6 3 5 4 9 0 0) (rx_6 0 1 2 3 0 0) (rx_6 2 2 0 2 0 0) (rx_6 0 0 0 0 0 0) (rx_6 (x / y) 0 0 0 0 0) (rx_6 0 (z &&& 7) 0 0 0 0) (rx_6 0 0 0 1 0 0) (rx_6 0 0 0 0 0 0) (rx_6 2 0 0 0 0 0) (rx_6 (-1) (-1) (-1) (-1) 0 0) (rx_6 (-1) (-1) (-1) (-1) 0 0) (rx_6 x (x / y) z 0 0 0) (rx_6 y z 0 0 0 0) (rx_6 2 (-1) (-1) (-1) 0 0) := by
  refine br_f (by decide +kernel) ?_
  refine br_f (by decide +kernel) ?_
  refine br_t (by decide +kernel) ?_
  refine rx_ret_21 (rx_and7 z) ?_
  refine nm_r (e' := (2 : Int32)) (by decide +kernel) ?_
  refine br_f (by decide +kernel) ?_
  refine br_t (by decide +kernel) ?_
  refine rx_com_25 ?_
  refine rx_beg_25 ?_
  refine rx_iss_5 ?_
  refine nm_r (e' := (9 : Int32)) (by decide +kernel) ?_
  exact hp
theorem rx_cy36 {post : Int32 → St2 → Prop} {n : Nat} {x y z kd : Int32} {c : Nat → Int32}
    (hp : wX_finish_28 post 9 n 2 10 3 2 1 2 kd 3 0 2 2 (rx_6 3 5 4 0 0 0) (rx_6 18 14 12 0 0 0) (rx_6 0 0 0 0 0 0) (rx_6 x y (x / y) z 0 0) (upd c (z &&& 7).toNatClampNeg (x / y)) (rx_6 3 5 4 9 0 0) (rx_6 0 1 2 3 0 0) (rx_6 2 2 1 2 0 0) (rx_6 0 0 1 0 0 0) (rx_6 (x / y) 0 0 0 0 0) (rx_6 0 (z &&& 7) 0 0 0 0) (rx_6 0 0 0 1 0 0) (rx_6 0 0 0 0 0 0) (rx_6 2 0 0 0 0 0) (rx_6 (-1) (-1) (-1) (-1) 0 0) (rx_6 (-1) (-1) (-1) (-1) 0 0) (rx_6 x (x / y) z 0 0 0) (rx_6 y z 0 0 0 0) (rx_6 2 (-1) (-1) (-1) 0 0)) :
    wX_finish_28 post 9 (n + 1) 2 9 3 2 1 2 kd 3 0 2 2 (rx_6 3 5 4 0 0 0) (rx_6 18 14 12 0 0 0) (rx_6 0 0 0 0 0 0) (rx_6 x y (x / y) z 0 0) (upd c (z &&& 7).toNatClampNeg (x / y)) (rx_6 3 5 4 9 0 0) (rx_6 0 1 2 3 0 0) (rx_6 2 2 1 2 0 0) (rx_6 0 0 2 0 0 0) (rx_6 (x / y) 0 0 0 0 0) (rx_6 0 (z &&& 7) 0 0 0 0) (rx_6 0 0 0 1 0 0) (rx_6 0 0 0 0 0 0) (rx_6 2 0 0 0 0 0) (rx_6 (-1) (-1) (-1) (-1) 0 0) (rx_6 (-1) (-1) (-1) (-1) 0 0) (rx_6 x (x / y) z 0 0 0) (rx_6 y z 0 0 0 0) (rx_6 2 (-1) (-1) (-1) 0 0) := by
  refine br_f (by decide +kernel) ?_
  refine br_f (by decide +kernel) ?_
  refine br_t (by decide +kernel) ?_
  refine rx_ret_7 ?_
  refine nm_r (e' := (2 : Int32)) (by decide +kernel) ?_
  refine br_f (by decide +kernel) ?_
  refine br_t (by decide +kernel) ?_
  refine rx_com_15 ?_
  refine rx_beg_26 ?_
  refine rx_iss_5 ?_
  refine nm_r (e' := (10 : Int32)) (by decide +kernel) ?_
  exact hp
theorem rx_cy37 {post : Int32 → St2 → Prop} {n : Nat} {x y z kd : Int32} {c : Nat → Int32} (hz : 0 ≤ z)
    (hp : wX_finish_28 post 9 n 2 11 3 2 1 2 kd 3 0 2 2 (rx_6 3 5 4 0 0 0) (rx_6 18 14 12 0 0 0) (rx_6 0 0 0 0 0 0) (rx_6 x y (x / y) z 0 0) (upd c (z &&& 7).toNatClampNeg (x / y)) (rx_6 3 5 4 9 0 0) (rx_6 0 1 2 3 0 0) (rx_6 2 2 2 2 0 0) (rx_6 0 0 0 0 0 0) (rx_6 (x / y) 0 ((upd c (z &&& 7).toNatClampNeg (x / y)) (z &&& 7).toNatClampNeg) 0 0 0) (rx_6 0 (z &&& 7) 0 0 0 0) (rx_6 0 0 0 1 0 0) (rx_6 0 0 0 0 0 0) (rx_6 2 0 0 0 0 0) (rx_6 (-1) (-1) (-1) (-1) 0 0) (rx_6 (-1) (-1) (-1) (-1) 0 0) (rx_6 x (x / y) z 0 0 0) (rx_6 y z 0 0 0 0) (rx_6 2 (-1) (-1) (-1) 0 0)) :
    wX_finish_28 post 9 (n + 1) 2 10 3 2 1 2 kd 3 0 2 2 (rx_6 3 5 4 0 0 0) (rx_6 18 14 12 0 0 0) (rx_6 0 0 0 0 0 0) (rx_6 x y (x / y) z 0 0) (upd c (z &&& 7).toNatClampNeg (x / y)) (rx_6 3 5 4 9 0 0) (rx_6 0 1 2 3 0 0) (rx_6 2 2 1 2 0 0) (rx_6 0 0 1 0 0 0) (rx_6 (x / y) 0 0 0 0 0) (rx_6 0 (z &&& 7) 0 0 0 0) (rx_6 0 0 0 1 0 0) (rx_6 0 0 0 0 0 0) (rx_6 2 0 0 0 0 0) (rx_6 (-1) (-1) (-1) (-1) 0 0) (rx_6 (-1) (-1) (-1) (-1) 0 0) (rx_6 x (x / y) z 0 0 0) (rx_6 y z 0 0 0 0) (rx_6 2 (-1) (-1) (-1) 0 0) := by
  refine br_f (by decide +kernel) ?_
  refine br_f (by decide +kernel) ?_
  refine br_t (by decide +kernel) ?_
  refine rx_ret_7 ?_
  refine nm_r (e' := (2 : Int32)) (by decide +kernel) ?_
  refine br_f (by decide +kernel) ?_
  refine br_t (by decide +kernel) ?_
  refine rx_com_26 hz ?_
  refine rx_beg_27 ?_
  refine rx_iss_5 ?_
  refine nm_r (e' := (11 : Int32)) (by decide +kernel) ?_
  exact hp
theorem rx_cy38 {post : Int32 → St2 → Prop} {n : Nat} {x y z kd : Int32} {c : Nat → Int32}
    (hp : wX_finish_28 post 9 n 3 12 3 3 1 3 kd 3 0 3 1 (rx_6 3 5 4 0 0 0) (rx_6 18 14 12 0 0 0) (rx_6 0 0 0 0 0 0) (rx_6 ((upd c (z &&& 7).toNatClampNeg (x / y)) (z &&& 7).toNatClampNeg) y (x / y) z 0 0) (upd c (z &&& 7).toNatClampNeg (x / y)) (rx_6 3 5 4 9 0 0) (rx_6 0 1 2 3 0 0) (rx_6 2 2 2 2 0 0) (rx_6 0 0 0 0 0 0) (rx_6 (x / y) 0 ((upd c (z &&& 7).toNatClampNeg (x / y)) (z &&& 7).toNatClampNeg) 0 0 0) (rx_6 0 (z &&& 7) 0 0 0 0) (rx_6 0 0 0 1 0 0) (rx_6 0 0 0 0 0 0) (rx_6 2 0 0 0 0 0) (rx_6 (-1) (-1) (-1) (-1) 0 0) (rx_6 (-1) (-1) (-1) (-1) 0 0) (rx_6 x (x / y) z 0 0 0) (rx_6 y z 0 0 0 0) (rx_6 (-1) (-1) (-1) (-1) 0 0)) :
    wX_finish_28 post 9 (n + 1) 2 11 3 2 1 2 kd 3 0 2 2 (rx_6 3 5 4 0 0 0) (rx_6 18 14 12 0 0 0) (rx_6 0 0 0 0 0 0) (rx_6 x y (x / y) z 0 0) (upd c (z &&& 7).toNatClampNeg (x / y)) (rx_6 3 5 4 9 0 0) (rx_6 0 1 2 3 0 0) (rx_6 2 2 2 2 0 0) (rx_6 0 0 0 0 0 0) (rx_6 (x / y) 0 ((upd c (z &&& 7).toNatClampNeg (x / y)) (z &&& 7).toNatClampNeg) 0 0 0) (rx_6 0 (z &&& 7) 0 0 0 0) (rx_6 0 0 0 1 0 0) (rx_6 0 0 0 0 0 0) (rx_6 2 0 0 0 0 0) (rx_6 (-1) (-1) (-1) (-1) 0 0) (rx_6 (-1) (-1) (-1) (-1) 0 0) (rx_6 x (x / y) z 0 0 0) (rx_6 y z 0 0 0 0) (rx_6 2 (-1) (-1) (-1) 0 0) := by
  refine br_f (by decide +kernel) ?_
  refine br_f (by decide +kernel) ?_
  refine br_t (by decide +kernel) ?_
  refine rx_ret_22 ?_
  refine nm_r (e' := (3 : Int32)) (by decide +kernel) ?_
  refine br_f (by decide +kernel) ?_
  refine br_t (by decide +kernel) ?_
  refine rx_com_8 ?_
  refine rx_beg_28 ?_
  refine rx_iss_6 ?_
  refine nm_r (e' := (12 : Int32)) (by decide +kernel) ?_
  exact hp
theorem rx_cy39 {post : Int32 → St2 → Prop} {n : Nat} {x y z kd : Int32} {c : Nat → Int32}
    (hp : wX_finish_28 post 9 n 3 13 3 3 3 3 kd 3 0 3 1 (rx_6 3 5 4 0 0 0) (rx_6 18 14 12 0 0 0) (rx_6 0 0 0 0 0 0) (rx_6 ((upd c (z &&& 7).toNatClampNeg (x / y)) (z &&& 7).toNatClampNeg) y (x / y) z 0 0) (upd c (z &&& 7).toNatClampNeg (x / y)) (rx_6 3 5 4 9 0 0) (rx_6 0 1 2 3 0 0) (rx_6 2 2 2 2 0 0) (rx_6 0 0 0 0 0 0) (rx_6 (x / y) 0 ((upd c (z &&& 7).toNatClampNeg (x / y)) (z &&& 7).toNatClampNeg) 0 0 0) (rx_6 0 (z &&& 7) 0 0 0 0) (rx_6 0 0 0 1 0 0) (rx_6 0 0 0 0 0 0) (rx_6 2 0 0 0 0 0) (rx_6 (-1) (-1) (-1) (-1) 0 0) (rx_6 (-1) (-1) (-1) (-1) 0 0) (rx_6 x (x / y) z 0 0 0) (rx_6 y z 0 0 0 0) (rx_6 (-1) (-1) (-1) (-1) 0 0)) :
    wX_finish_28 post 9 (n + 1) 3 12 3 3 1 3 kd 3 0 3 1 (rx_6 3 5 4 0 0 0) (rx_6 18 14 12 0 0 0) (rx_6 0 0 0 0 0 0) (rx_6 ((upd c (z &&& 7).toNatClampNeg (x / y)) (z &&& 7).toNatClampNeg) y (x / y) z 0 0) (upd c (z &&& 7).toNatClampNeg (x / y)) (rx_6 3 5 4 9 0 0) (rx_6 0 1 2 3 0 0) (rx_6 2 2 2 2 0 0) (rx_6 0 0 0 0 0 0) (rx_6 (x / y) 0 ((upd c (z &&& 7).toNatClampNeg (x / y)) (z &&& 7).toNatClampNeg) 0 0 0) (rx_6 0 (z &&& 7) 0 0 0 0) (rx_6 0 0 0 1 0 0) (rx_6 0 0 0 0 0 0) (rx_6 2 0 0 0 0 0) (rx_6 (-1) (-1) (-1) (-1) 0 0) (rx_6 (-1) (-1) (-1) (-1) 0 0) (rx_6 x (x / y) z 0 0 0) (rx_6 y z 0 0 0 0) (rx_6 (-1) (-1) (-1) (-1) 0 0) := by
  refine br_f (by decide +kernel) ?_
  refine br_f (by decide +kernel) ?_
  refine br_t (by decide +kernel) ?_
  refine rx_ret_9 ?_
  refine nm_r (e' := (3 : Int32)) (by decide +kernel) ?_
  refine br_f (by decide +kernel) ?_
  refine br_f (by decide +kernel) ?_
  refine nm_r (e' := (13 : Int32)) (by decide +kernel) ?_
  exact hp
theorem rx_cy40 {post : Int32 → St2 → Prop} {n : Nat} {x y z kd : Int32} {c : Nat → Int32} (hz : ¬ 0 ≤ z)
    (hp : wX_finish_28 post 9 n 1 8 3 1 1 1 kd 3 0 1 3 (rx_6 3 5 4 0 0 0) (rx_6 18 14 12 0 0 0) (rx_6 0 0 0 0 0 0) (rx_6 x y (x / y) z 0 0) c (rx_6 3 5 4 9 0 0) (rx_6 0 1 2 3 0 0) (rx_6 2 2 0 2 0 0) (rx_6 0 0 0 0 0 0) (rx_6 (x / y) 0 0 0 0 0) (rx_6 0 (z &&& 7) 0 0 0 0) (rx_6 0 1 0 1 0 0) (rx_6 0 0 0 0 0 0) (rx_6 2 0 0 0 0 0) (rx_6 (-1) (-1) (-1) (-1) 0 0) (rx_6 (-1) (-1) (-1) (-1) 0 0) (rx_6 x (x / y) z 0 0 0) (rx_6 y z 0 0 0 0) (rx_6 2 (-1) (-1) (-1) 0 0)) :
    wX_finish_28 post 9 (n + 1) 0 7 3 0 1 0 kd 3 0 0 4 (rx_6 3 5 4 0 0 0) (rx_6 18 14 12 0 0 0) (rx_6 0 0 0 0 0 0) (rx_6 x y 0 z 0 0) c (rx_6 3 5 4 9 0 0) (rx_6 0 1 2 3 0 0) (rx_6 2 1 0 2 0 0) (rx_6 0 1 0 0 0 0) (rx_6 (x / y) 0 0 0 0 0) (rx_6 0 0 0 0 0 0) (rx_6 0 0 0 1 0 0) (rx_6 0 0 0 0 0 0) (rx_6 2 0 0 0 0 0) (rx_6 (-1) (-1) (-1) (-1) 0 0) (rx_6 (-1) (-1) (-1) (-1) 0 0) (rx_6 x (x / y) z 0 0 0) (rx_6 y z 0 0 0 0) (rx_6 2 (-1) 0 (-1) 0 0) := by
  refine br_f (by decide +kernel) ?_
  refine br_f (by decide +kernel) ?_
  refine br_t (by decide +kernel) ?_
  refine rx_ret_20 ?_
  refine nm_r (e' := (1 : Int32)) (by decide +kernel) ?_
  refine br_f (by decide +kernel) ?_
  refine br_t (by decide +kernel) ?_
  refine rx_com_27 hz ?_
  refine rx_beg_24 ?_
  refine rx_iss_13 ?_
  refine nm_r (e' := (8 : Int32)) (by decide +kernel) ?_
  exact hp
theorem rx_cy41 {post : Int32 → St2 → Prop} {n : Nat} {x y z kd : Int32} {c : Nat → Int32}
    (hp : wX_finish_28 post 9 n 1 9 3 1 3 1 kd 3 0 1 3 (rx_6 3 5 4 0 0 0) (rx_6 18 14 12 0 0 0) (rx_6 0 0 0 0 0 0) (rx_6 x y (x / y) z 0 0) c (rx_6 3 5 4 9 0 0) (rx_6 0 1 2 3 0 0) (rx_6 2 2 0 2 0 0) (rx_6 0 0 0 0 0 0) (rx_6 (x / y) 0 0 0 0 0) (rx_6 0 (z &&& 7) 0 0 0 0) (rx_6 0 1 0 1 0 0) (rx_6 0 0 0 0 0 0) (rx_6 2 0 0 0 0 0) (rx_6 (-1) (-1) (-1) (-1) 0 0) (rx_6 (-1) (-1) (-1) (-1) 0 0) (rx_6 x (x / y) z 0 0 0) (rx_6 y z 0 0 0 0) (rx_6 2 (-1) (-1) (-1) 0 0)) :
    wX_finish_28 post 9 (n + 1) 1 8 3 1 1 1 kd 3 0 1 3 (rx_6 3 5 4 0 0 0) (rx_6 18 14 12 0 0 0) (rx_6 0 0 0 0 0 0) (rx_6 x y (x / y) z 0 0) c (rx_6 3 5 4 9 0 0) (rx_6 0 1 2 3 0 0) (rx_6 2 2 0 2 0 0) (rx_6 0 0 0 0 0 0) (rx_6 (x / y) 0 0 0 0 0) (rx_6 0 (z &&& 7) 0 0 0 0) (rx_6 0 1 0 1 0 0) (rx_6 0 0 0 0 0 0) (rx_6 2 0 0 0 0 0) (rx_6 (-1) (-1) (-1) (-1) 0 0) (rx_6 (-1) (-1) (-1) (-1) 0 0) (rx_6 x (x / y) z 0 0 0) (rx_6 y z 0 0 0 0) (rx_6 2 (-1) (-1) (-1) 0 0) := by
  refine br_f (by decide +kernel) ?_
  refine br_f (by decide +kernel) ?_
  refine br_t (by decide +kernel) ?_
  refine rx_ret_23 ?_
  refine nm_r (e' := (1 : Int32)) (by decide +kernel) ?_
  refine br_f (by decide +kernel) ?_
  refine br_f (by decide +kernel) ?_
  refine nm_r (e' := (9 : Int32)) (by decide +kernel) ?_
  exact hp
end
section
theorem rx_fin_1p {post : Int32 → St2 → Prop} {x y z kd : Int32} {c : Nat → Int32} (hz : 0 ≤ z)
    (hp : post 3 (3, 3, 3, 3, kd, 3, 0, 3, 1, (rx_6 1 5 4 0 0 0), (rx_6 18 14 12 0 0 0), (rx_6 0 0 0 0 0 0), (rx_6 ((upd c (z &&& 7).toNatClampNeg (x + y)) (z &&& 7).toNatClampNeg) y (x + y) z 0 0), (upd c (z &&& 7).toNatClampNeg (x + y)), (rx_6 1 5 4 9 0 0), (rx_6 0 1 2 3 0 0), (rx_6 2 2 2 2 0 0), (rx_6 0 0 0 0 0 0), (rx_6 (x + y) 0 ((upd c (z &&& 7).toNatClampNeg (x + y)) (z &&& 7).toNatClampNeg) 0 0 0), (rx_6 0 (z &&& 7) 0 0 0 0), (rx_6 0 0 0 1 0 0), (rx_6 0 0 0 0 0 0), (rx_6 2 0 0 0 0 0), (rx_6 (-1) (-1) (-1) (-1) 0 0), (rx_6 (-1) (-1) (-1) (-1) 0 0), (rx_6 x (x + y) z 0 0 0), (rx_6 y z 0 0 0 0), (rx_6 (-1) (-1) (-1) (-1) 0 0))) :
    wpX_finish post (3, 0, 1, 0, kd, 0, 1, 0, 0, (rx_6 1 5 4 0 0 0), (rx_6 18 14 12 0 0 0), (rx_6 0 0 0 0 0 0), (rx_6 x y 0 z 0 0), c, (rx_6 0 0 0 0 0 0), (rx_6 0 0 0 0 0 0), (rx_6 0 0 0 0 0 0), (rx_6 0 0 0 0 0 0), (rx_6 0 0 0 0 0 0), (rx_6 0 0 0 0 0 0), (rx_6 0 0 0 0 0 0), (rx_6 0 0 0 0 0 0), (rx_6 0 0 0 0 0 0), (rx_6 0 0 0 0 0 0), (rx_6 0 0 0 0 0 0), (rx_6 0 0 0 0 0 0), (rx_6 0 0 0 0 0 0), (rx_6 (-1) (-1) (-1) (-1) 0 0)) 9 := by
  refine br_t (by decide +kernel) ?_
  refine br_t (by decide +kernel) ?_
  refine ⟨10, ?_⟩
  refine rx_cy1 ?_
  refine rx_cy2 ?_
  refine rx_cy3 ?_
  refine rx_cy4 hz ?_
  refine rx_cy5 ?_
  refine rx_cy6 ?_
  refine rx_cy7 hz ?_
  refine rx_cy8 ?_
  refine rx_cy9 ?_
  refine br_f (by decide +kernel) ?_
  refine br_f (by decide +kernel) ?_
  refine br_f (by decide +kernel) ?_
  exact hp
theorem rx_fin_1n {post : Int32 → St2 → Prop} {x y z kd : Int32} {c : Nat → Int32} (hz : ¬ 0 ≤ z)
    (hp : post 1 (3, 1, 3, 1, kd, 3, 0, 1, 3, (rx_6 1 5 4 0 0 0), (rx_6 18 14 12 0 0 0), (rx_6 0 0 0 0 0 0), (rx_6 x y (x + y) z 0 0), c, (rx_6 1 5 4 9 0 0), (rx_6 0 1 2 3 0 0), (rx_6 2 2 0 0 0 0), (rx_6 0 0 0 0 0 0), (rx_6 (x + y) 0 0 0 0 0), (rx_6 0 (z &&& 7) 0 0 0 0), (rx_6 0 1 0 0 0 0), (rx_6 0 0 0 0 0 0), (rx_6 2 0 0 0 0 0), (rx_6 (-1) (-1) (-1) (-1) 0 0), (rx_6 (-1) (-1) (-1) (-1) 0 0), (rx_6 x (x + y) z 0 0 0), (rx_6 y z 0 0 0 0), (rx_6 2 (-1) (-1) (-1) 0 0))) :
    wpX_finish post (3, 0, 1, 0, kd, 0, 1, 0, 0, (rx_6 1 5 4 0 0 0), (rx_6 18 14 12 0 0 0), (rx_6 0 0 0 0 0 0), (rx_6 x y 0 z 0 0), c, (rx_6 0 0 0 0 0 0), (rx_6 0 0 0 0 0 0), (rx_6 0 0 0 0 0 0), (rx_6 0 0 0 0 0 0), (rx_6 0 0 0 0 0 0), (rx_6 0 0 0 0 0 0), (rx_6 0 0 0 0 0 0), (rx_6 0 0 0 0 0 0), (rx_6 0 0 0 0 0 0), (rx_6 0 0 0 0 0 0), (rx_6 0 0 0 0 0 0), (rx_6 0 0 0 0 0 0), (rx_6 0 0 0 0 0 0), (rx_6 (-1) (-1) (-1) (-1) 0 0)) 9 := by
  refine br_t (by decide +kernel) ?_
  refine br_t (by decide +kernel) ?_
  refine ⟨6, ?_⟩
  refine rx_cy1 ?_
  refine rx_cy2 ?_
  refine rx_cy3 ?_
  refine rx_cy10 hz ?_
  refine rx_cy11 ?_
  refine br_f (by decide +kernel) ?_
  refine br_f (by decide +kernel) ?_
  refine br_f (by decide +kernel) ?_
  exact hp
theorem rx_fin_2p {post : Int32 → St2 → Prop} {x y z kd : Int32} {c : Nat → Int32} (hz : 0 ≤ z)
    (hp : post 3 (3, 3, 3, 3, kd, 3, 0, 3, 1, (rx_6 2 5 4 0 0 0), (rx_6 18 14 12 0 0 0), (rx_6 0 0 0 0 0 0), (rx_6 ((upd c (z &&& 7).toNatClampNeg (x * y)) (z &&& 7).toNatClampNeg) y (x * y) z 0 0), (upd c (z &&& 7).toNatClampNeg (x * y)), (rx_6 2 5 4 9 0 0), (rx_6 0 1 2 3 0 0), (rx_6 2 2 2 2 0 0), (rx_6 0 0 0 0 0 0), (rx_6 (x * y) 0 ((upd c (z &&& 7).toNatClampNeg (x * y)) (z &&& 7).toNatClampNeg) 0 0 0), (rx_6 0 (z &&& 7) 0 0 0 0), (rx_6 0 0 0 1 0 0), (rx_6 0 0 0 0 0 0), (rx_6 2 0 0 0 0 0), (rx_6 (-1) (-1) (-1) (-1) 0 0), (rx_6 (-1) (-1) (-1) (-1) 0 0), (rx_6 x (x * y) z 0 0 0), (rx_6 y z 0 0 0 0), (rx_6 (-1) (-1) (-1) (-1) 0 0))) :
    wpX_finish post (3, 0, 1, 0, kd, 0, 1, 0, 0, (rx_6 2 5 4 0 0 0), (rx_6 18 14 12 0 0 0), (rx_6 0 0 0 0 0 0), (rx_6 x y 0 z 0 0), c, (rx_6 0 0 0 0 0 0), (rx_6 0 0 0 0 0 0), (rx_6 0 0 0 0 0 0), (rx_6 0 0 0 0 0 0), (rx_6 0 0 0 0 0 0), (rx_6 0 0 0 0 0 0), (rx_6 0 0 0 0 0 0), (rx_6 0 0 0 0 0 0), (rx_6 0 0 0 0 0 0), (rx_6 0 0 0 0 0 0), (rx_6 0 0 0 0 0 0), (rx_6 0 0 0 0 0 0), (rx_6 0 0 0 0 0 0), (rx_6 (-1) (-1) (-1) (-1) 0 0)) 9 := by
  refine br_t (by decide +kernel) ?_
  refine br_t (by decide +kernel) ?_
  refine ⟨12, ?_⟩
  refine rx_cy12 ?_
  refine rx_cy13 ?_
  refine rx_cy14 ?_
  refine rx_cy15 ?_
  refine rx_cy16 ?_
  refine rx_cy17 hz ?_
  refine rx_cy18 ?_
  refine rx_cy19 ?_
  refine rx_cy20 hz ?_
  refine rx_cy21 ?_
  refine rx_cy22 ?_
  refine br_f (by decide +kernel) ?_
  refine br_f (by decide +kernel) ?_
  refine br_f (by decide +kernel) ?_
  exact hp
theorem rx_fin_2n {post : Int32 → St2 → Prop} {x y z kd : Int32} {c : Nat → Int32} (hz : ¬ 0 ≤ z)
    (hp : post 1 (3, 1, 3, 1, kd, 3, 0, 1, 3, (rx_6 2 5 4 0 0 0), (rx_6 18 14 12 0 0 0), (rx_6 0 0 0 0 0 0), (rx_6 x y (x * y) z 0 0), c, (rx_6 2 5 4 9 0 0), (rx_6 0 1 2 3 0 0), (rx_6 2 2 0 1 0 0), (rx_6 0 0 0 0 0 0), (rx_6 (x * y) 0 0 0 0 0), (rx_6 0 (z &&& 7) 0 0 0 0), (rx_6 0 1 0 0 0 0), (rx_6 0 0 0 0 0 0), (rx_6 2 0 0 0 0 0), (rx_6 (-1) (-1) (-1) (-1) 0 0), (rx_6 (-1) (-1) (-1) (-1) 0 0), (rx_6 x (x * y) z 0 0 0), (rx_6 y z 0 0 0 0), (rx_6 2 (-1) (-1) (-1) 0 0))) :
    wpX_finish post (3, 0, 1, 0, kd, 0, 1, 0, 0, (rx_6 2 5 4 0 0 0), (rx_6 18 14 12 0 0 0), (rx_6 0 0 0 0 0 0), (rx_6 x y 0 z 0 0), c, (rx_6 0 0 0 0 0 0), (rx_6 0 0 0 0 0 0), (rx_6 0 0 0 0 0 0), (rx_6 0 0 0 0 0 0), (rx_6 0 0 0 0 0 0), (rx_6 0 0 0 0 0 0), (rx_6 0 0 0 0 0 0), (rx_6 0 0 0 0 0 0), (rx_6 0 0 0 0 0 0), (rx_6 0 0 0 0 0 0), (rx_6 0 0 0 0 0 0), (rx_6 0 0 0 0 0 0), (rx_6 0 0 0 0 0 0), (rx_6 (-1) (-1) (-1) (-1) 0 0)) 9 := by
  refine br_t (by decide +kernel) ?_
  refine br_t (by decide +kernel) ?_
  refine ⟨8, ?_⟩
  refine rx_cy12 ?_
  refine rx_cy13 ?_
  refine rx_cy14 ?_
  refine rx_cy15 ?_
  refine rx_cy16 ?_
  refine rx_cy23 hz ?_
  refine rx_cy24 ?_
  refine br_f (by decide +kernel) ?_
  refine br_f (by decide +kernel) ?_
  refine br_f (by decide +kernel) ?_
  exact hp
theorem rx_fin_30p {post : Int32 → St2 → Prop} {x y z kd : Int32} {c : Nat → Int32} (hy : y = 0)
    (hp : post 0 (3, 0, 3, 0, kd, 3, 0, 0, 4, (rx_6 3 5 4 0 0 0), (rx_6 18 14 12 0 0 0), (rx_6 0 0 0 0 0 0), (rx_6 x y 0 z 0 0), c, (rx_6 3 5 4 9 0 0), (rx_6 0 1 2 3 0 0), (rx_6 2 1 0 2 0 0), (rx_6 0 1 0 0 0 0), (rx_6 0 0 0 0 0 0), (rx_6 0 0 0 0 0 0), (rx_6 1 0 0 1 0 0), (rx_6 0 0 0 0 0 0), (rx_6 2 0 0 0 0 0), (rx_6 (-1) (-1) (-1) (-1) 0 0), (rx_6 (-1) (-1) (-1) (-1) 0 0), (rx_6 x 0 z 0 0 0), (rx_6 y z 0 0 0 0), (rx_6 2 (-1) 0 (-1) 0 0))) :
    wpX_finish post (3, 0, 1, 0, kd, 0, 1, 0, 0, (rx_6 3 5 4 0 0 0), (rx_6 18 14 12 0 0 0), (rx_6 0 0 0 0 0 0), (rx_6 x y 0 z 0 0), c, (rx_6 0 0 0 0 0 0), (rx_6 0 0 0 0 0 0), (rx_6 0 0 0 0 0 0), (rx_6 0 0 0 0 0 0), (rx_6 0 0 0 0 0 0), (rx_6 0 0 0 0 0 0), (rx_6 0 0 0 0 0 0), (rx_6 0 0 0 0 0 0), (rx_6 0 0 0 0 0 0), (rx_6 0 0 0 0 0 0), (rx_6 0 0 0 0 0 0), (rx_6 0 0 0 0 0 0), (rx_6 0 0 0 0 0 0), (rx_6 (-1) (-1) (-1) (-1) 0 0)) 9 := by
  refine br_t (by decide +kernel) ?_
  refine br_t (by decide +kernel) ?_
  refine ⟨9, ?_⟩
  refine rx_cy25 ?_
  refine rx_cy26 ?_
  refine rx_cy27 ?_
  refine rx_cy28 ?_
  refine rx_cy29 ?_
  refine rx_cy30 ?_
  refine rx_cy31 hy ?_
  refine rx_cy32 ?_
  refine br_f (by decide +kernel) ?_
  refine br_f (by decide +kernel) ?_
  refine br_f (by decide +kernel) ?_
  exact hp
theorem rx_fin_30n {post : Int32 → St2 → Prop} {x y z kd : Int32} {c : Nat → Int32} (hy : y = 0)
    (hp : post 0 (3, 0, 3, 0, kd, 3, 0, 0, 4, (rx_6 3 5 4 0 0 0), (rx_6 18 14 12 0 0 0), (rx_6 0 0 0 0 0 0), (rx_6 x y 0 z 0 0), c, (rx_6 3 5 4 9 0 0), (rx_6 0 1 2 3 0 0), (rx_6 2 1 0 2 0 0), (rx_6 0 1 0 0 0 0), (rx_6 0 0 0 0 0 0), (rx_6 0 0 0 0 0 0), (rx_6 1 0 0 1 0 0), (rx_6 0 0 0 0 0 0), (rx_6 2 0 0 0 0 0), (rx_6 (-1) (-1) (-1) (-1) 0 0), (rx_6 (-1) (-1) (-1) (-1) 0 0), (rx_6 x 0 z 0 0 0), (rx_6 y z 0 0 0 0), (rx_6 2 (-1) 0 (-1) 0 0))) :
    wpX_finish post (3, 0, 1, 0, kd, 0, 1, 0, 0, (rx_6 3 5 4 0 0 0), (rx_6 18 14 12 0 0 0), (rx_6 0 0 0 0 0 0), (rx_6 x y 0 z 0 0), c, (rx_6 0 0 0 0 0 0), (rx_6 0 0 0 0 0 0), (rx_6 0 0 0 0 0 0), (rx_6 0 0 0 0 0 0), (rx_6 0 0 0 0 0 0), (rx_6 0 0 0 0 0 0), (rx_6 0 0 0 0 0 0), (rx_6 0 0 0 0 0 0), (rx_6 0 0 0 0 0 0), (rx_6 0 0 0 0 0 0), (rx_6 0 0 0 0 0 0), (rx_6 0 0 0 0 0 0), (rx_6 0 0 0 0 0 0), (rx_6 (-1) (-1) (-1) (-1) 0 0)) 9 := by
  refine br_t (by decide +kernel) ?_
  refine br_t (by decide +kernel) ?_
  refine ⟨9, ?_⟩
  refine rx_cy25 ?_
  refine rx_cy26 ?_
  refine rx_cy27 ?_
  refine rx_cy28 ?_
  refine rx_cy29 ?_
  refine rx_cy30 ?_
  refine rx_cy31 hy ?_
  refine rx_cy32 ?_
  refine br_f (by decide +kernel) ?_
  refine br_f (by decide +kernel) ?_
  refine br_f (by decide +kernel) ?_
  exact hp
theorem rx_fin_3p {post : Int32 → St2 → Prop} {x y z kd : Int32} {c : Nat → Int32} (hy : ¬ y = 0) (hz : 0 ≤ z)
    (hp : post 3 (3, 3, 3, 3, kd, 3, 0, 3, 1, (rx_6 3 5 4 0 0 0), (rx_6 18 14 12 0 0 0), (rx_6 0 0 0 0 0 0), (rx_6 ((upd c (z &&& 7).toNatClampNeg (x / y)) (z &&& 7).toNatClampNeg) y (x / y) z 0 0), (upd c (z &&& 7).toNatClampNeg (x / y)), (rx_6 3 5 4 9 0 0), (rx_6 0 1 2 3 0 0), (rx_6 2 2 2 2 0 0), (rx_6 0 0 0 0 0 0), (rx_6 (x / y) 0 ((upd c (z &&& 7).toNatClampNeg (x / y)) (z &&& 7).toNatClampNeg) 0 0 0), (rx_6 0 (z &&& 7) 0 0 0 0), (rx_6 0 0 0 1 0 0), (rx_6 0 0 0 0 0 0), (rx_6 2 0 0 0 0 0), (rx_6 (-1) (-1) (-1) (-1) 0 0), (rx_6 (-1) (-1) (-1) (-1) 0 0), (rx_6 x (x / y) z 0 0 0), (rx_6 y z 0 0 0 0), (rx_6 (-1) (-1) (-1) (-1) 0 0))) :
    wpX_finish post (3, 0, 1, 0, kd, 0, 1, 0, 0, (rx_6 3 5 4 0 0 0), (rx_6 18 14 12 0 0 0), (rx_6 0 0 0 0 0 0), (rx_6 x y 0 z 0 0), c, (rx_6 0 0 0 0 0 0), (rx_6 0 0 0 0 0 0), (rx_6 0 0 0 0 0 0), (rx_6 0 0 0 0 0 0), (rx_6 0 0 0 0 0 0), (rx_6 0 0 0 0 0 0), (rx_6 0 0 0 0 0 0), (rx_6 0 0 0 0 0 0), (rx_6 0 0 0 0 0 0), (rx_6 0 0 0 0 0 0), (rx_6 0 0 0 0 0 0), (rx_6 0 0 0 0 0 0), (rx_6 0 0 0 0 0 0), (rx_6 (-1) (-1) (-1) (-1) 0 0)) 9 := by
  refine br_t (by decide +kernel) ?_
  refine br_t (by decide +kernel) ?_
  refine ⟨14, ?_⟩
  refine rx_cy25 ?_
  refine rx_cy26 ?_
  refine rx_cy27 ?_
  refine rx_cy28 ?_
  refine rx_cy29 ?_
  refine rx_cy30 ?_
  refine rx_cy33 hy ?_
  refine rx_cy34 hz ?_
  refine rx_cy35 ?_
  refine rx_cy36 ?_
  refine rx_cy37 hz ?_
  refine rx_cy38 ?_
  refine rx_cy39 ?_
  refine br_f (by decide +kernel) ?_
  refine br_f (by decide +kernel) ?_
  refine br_f (by decide +kernel) ?_
  exact hp
theorem rx_fin_3n {post : Int32 → St2 → Prop} {x y z kd : Int32} {c : Nat → Int32} (hy : ¬ y = 0) (hz : ¬ 0 ≤ z)
    (hp : post 1 (3, 1, 3, 1, kd, 3, 0, 1, 3, (rx_6 3 5 4 0 0 0), (rx_6 18 14 12 0 0 0), (rx_6 0 0 0 0 0 0), (rx_6 x y (x / y) z 0 0), c, (rx_6 3 5 4 9 0 0), (rx_6 0 1 2 3 0 0), (rx_6 2 2 0 2 0 0), (rx_6 0 0 0 0 0 0), (rx_6 (x / y) 0 0 0 0 0), (rx_6 0 (z &&& 7) 0 0 0 0), (rx_6 0 1 0 1 0 0), (rx_6 0 0 0 0 0 0), (rx_6 2 0 0 0 0 0), (rx_6 (-1) (-1) (-1) (-1) 0 0), (rx_6 (-1) (-1) (-1) (-1) 0 0), (rx_6 x (x / y) z 0 0 0), (rx_6 y z 0 0 0 0), (rx_6 2 (-1) (-1) (-1) 0 0))) :
    wpX_finish post (3, 0, 1, 0, kd, 0, 1, 0, 0, (rx_6 3 5 4 0 0 0), (rx_6 18 14 12 0 0 0), (rx_6 0 0 0 0 0 0), (rx_6 x y 0 z 0 0), c, (rx_6 0 0 0 0 0 0), (rx_6 0 0 0 0 0 0), (rx_6 0 0 0 0 0 0), (rx_6 0 0 0 0 0 0), (rx_6 0 0 0 0 0 0), (rx_6 0 0 0 0 0 0), (rx_6 0 0 0 0 0 0), (rx_6 0 0 0 0 0 0), (rx_6 0 0 0 0 0 0), (rx_6 0 0 0 0 0 0), (rx_6 0 0 0 0 0 0), (rx_6 0 0 0 0 0 0), (rx_6 0 0 0 0 0 0), (rx_6 (-1) (-1) (-1) (-1) 0 0)) 9 := by
  refine br_t (by decide +kernel) ?_
  refine br_t (by decide +kernel) ?_
  refine ⟨10, ?_⟩
  refine rx_cy25 ?_
  refine rx_cy26 ?_
  refine rx_cy27 ?_
  refine rx_cy28 ?_
  refine rx_cy29 ?_
  refine rx_cy30 ?_
  refine rx_cy33 hy ?_
  refine rx_cy40 hz ?_
  refine rx_cy41 ?_
  refine br_f (by decide +kernel) ?_
  refine br_f (by decide +kernel) ?_
  refine br_f (by decide +kernel) ?_
  exact hp
end
section
theorem rx_law_1p {post : Int32 → St0 → Prop} {x y z kd : Int32} (hk : 1 + ((kd &&& 65535) - (kd &&& 65535) / 3 * 3) = 1) (hz : 0 ≤ z) (hp : post 1 ()) : wpL_lawOf post 98 1568 () x y z kd := by
  refine ⟨by decide, by decide, 97, 1540, by decide, by decide, ?_⟩
  refine rx_init ?_
  refine ⟨(by decide +kernel), ?_⟩
  refine nm_r (e' := (1 : Int32)) hk ?_
  refine br_f (by decide +kernel) ?_
  refine br_f (by decide +kernel) ?_
  refine br_f (by decide +kernel) ?_
  refine ⟨rx_in4_0, ?_⟩
  refine nm_r (e' := (rx_6 x 0 0 0 0 0)) (rx_u0 rfl rfl) ?_
  refine br_f (by decide +kernel) ?_
  refine br_f (by decide +kernel) ?_
  refine br_f (by decide +kernel) ?_
  refine ⟨rx_in4_1, ?_⟩
  refine nm_r (e' := (rx_6 x y 0 0 0 0)) (rx_u1 rfl rfl) ?_
  refine br_f (by decide +kernel) ?_
  refine br_f (by decide +kernel) ?_
  refine br_f (by decide +kernel) ?_
  refine ⟨rx_in4_3, ?_⟩
  refine nm_r (e' := (rx_6 x y 0 z 0 0)) (rx_u3 rfl rfl) ?_
  refine br_f (by decide +kernel) ?_
  refine br_f (by decide +kernel) ?_
  refine br_f (by decide +kernel) ?_
  refine br_t (by decide +kernel) ?_
  refine br_t (by decide +kernel) ?_
  refine ⟨rx_in16_0, ?_⟩
  refine nm_r (e' := (rx_6 1 0 0 0 0 0)) (rx_u0 rfl (by decide +kernel)) ?_
  refine ⟨rx_in16_0, ?_⟩
  refine nm_r (e' := (rx_6 18 0 0 0 0 0)) (rx_u0 rfl (by decide +kernel)) ?_
  refine ⟨rx_in16_0, ?_⟩
  refine nm_r (e' := (rx_6 0 0 0 0 0 0)) (rx_u0 rfl rfl) ?_
  refine nm_r (e' := (1 : Int32)) (by decide +kernel) ?_
  refine br_f (by decide +kernel) ?_
  refine br_f (by decide +kernel) ?_
  refine br_f (by decide +kernel) ?_
  refine br_t (by decide +kernel) ?_
  refine br_t (by decide +kernel) ?_
  refine ⟨rx_in16_1, ?_⟩
  refine nm_r (e' := (rx_6 1 5 0 0 0 0)) (rx_u1 rfl (by decide +kernel)) ?_
  refine ⟨rx_in16_1, ?_⟩
  refine nm_r (e' := (rx_6 18 14 0 0 0 0)) (rx_u1 rfl (by decide +kernel)) ?_
  refine ⟨rx_in16_1, ?_⟩
  refine nm_r (e' := (rx_6 0 0 0 0 0 0)) (rx_u1 rfl rfl) ?_
  refine nm_r (e' := (2 : Int32)) (by decide +kernel) ?_
  refine br_f (by decide +kernel) ?_
  refine br_f (by decide +kernel) ?_
  refine br_f (by decide +kernel) ?_
  refine br_t (by decide +kernel) ?_
  refine br_t (by decide +kernel) ?_
  refine ⟨rx_in16_2, ?_⟩
  refine nm_r (e' := (rx_6 1 5 4 0 0 0)) (rx_u2 rfl (by decide +kernel)) ?_
  refine ⟨rx_in16_2, ?_⟩
  refine nm_r (e' := (rx_6 18 14 12 0 0 0)) (rx_u2 rfl (by decide +kernel)) ?_
  refine ⟨rx_in16_2, ?_⟩
  refine nm_r (e' := (rx_6 0 0 0 0 0 0)) (rx_u2 rfl rfl) ?_
  refine nm_r (e' := (3 : Int32)) (by decide +kernel) ?_
  refine ⟨7, ?_⟩
  refine br_f (by decide +kernel) ?_
  refine ⟨rx_in4_0, ?_⟩
  refine nm_r (e' := (rx_6 (-1) 0 0 0 0 0)) (rx_u0 rfl rfl) ?_
  refine nm_r (e' := (1 : Int32)) (by decide +kernel) ?_
  refine br_f (by decide +kernel) ?_
  refine ⟨rx_in4_1, ?_⟩
  refine nm_r (e' := (rx_6 (-1) (-1) 0 0 0 0)) (rx_u1 rfl rfl) ?_
  refine nm_r (e' := (2 : Int32)) (by decide +kernel) ?_
  refine br_f (by decide +kernel) ?_
  refine ⟨rx_in4_2, ?_⟩
  refine nm_r (e' := (rx_6 (-1) (-1) (-1) 0 0 0)) (rx_u2 rfl rfl) ?_
  refine nm_r (e' := (3 : Int32)) (by decide +kernel) ?_
  refine br_f (by decide +kernel) ?_
  refine ⟨rx_in4_3, ?_⟩
  refine nm_r (e' := (rx_6 (-1) (-1) (-1) (-1) 0 0)) (rx_u3 rfl rfl) ?_
  refine nm_r (e' := (4 : Int32)) (by decide +kernel) ?_
  refine br_t (by decide +kernel) ?_
  refine rx_fin_1p hz ?_
  refine br_f (by decide +kernel) ?_
  refine br_t hz ?_
  refine br_t (by decide +kernel) ?_
  refine br_t (by decide +kernel) ?_
  refine br_t (by decide +kernel) ?_
  refine br_t (by decide +kernel) ?_
  refine br_f (by decide +kernel) ?_
  refine br_t (by decide +kernel) ?_
  refine ⟨rx_in4_0, ?_⟩
  refine br_t (by decide +kernel) ?_
  refine br_t ((rx_g0 rfl).trans pk_us) ?_
  exact hp
theorem rx_law_1n {post : Int32 → St0 → Prop} {x y z kd : Int32} (hk : 1 + ((kd &&& 65535) - (kd &&& 65535) / 3 * 3) = 1) (hz : ¬ 0 ≤ z) (hp : post 1 ()) : wpL_lawOf post 98 1568 () x y z kd := by
  refine ⟨by decide, by decide, 97, 1540, by decide, by decide, ?_⟩
  refine rx_init ?_
  refine ⟨(by decide +kernel), ?_⟩
  refine nm_r (e' := (1 : Int32)) hk ?_
  refine br_f (by decide +kernel) ?_
  refine br_f (by decide +kernel) ?_
  refine br_f (by decide +kernel) ?_
  refine ⟨rx_in4_0, ?_⟩
  refine nm_r (e' := (rx_6 x 0 0 0 0 0)) (rx_u0 rfl rfl) ?_
  refine br_f (by decide +kernel) ?_
  refine br_f (by decide +kernel) ?_
  refine br_f (by decide +kernel) ?_
  refine ⟨rx_in4_1, ?_⟩
  refine nm_r (e' := (rx_6 x y 0 0 0 0)) (rx_u1 rfl rfl) ?_
  refine br_f (by decide +kernel) ?_
  refine br_f (by decide +kernel) ?_
  refine br_f (by decide +kernel) ?_
  refine ⟨rx_in4_3, ?_⟩
  refine nm_r (e' := (rx_6 x y 0 z 0 0)) (rx_u3 rfl rfl) ?_
  refine br_f (by decide +kernel) ?_
  refine br_f (by decide +kernel) ?_
  refine br_f (by decide +kernel) ?_
  refine br_t (by decide +kernel) ?_
  refine br_t (by decide +kernel) ?_
  refine ⟨rx_in16_0, ?_⟩
  refine nm_r (e' := (rx_6 1 0 0 0 0 0)) (rx_u0 rfl (by decide +kernel)) ?_
  refine ⟨rx_in16_0, ?_⟩
  refine nm_r (e' := (rx_6 18 0 0 0 0 0)) (rx_u0 rfl (by decide +kernel)) ?_
  refine ⟨rx_in16_0, ?_⟩
  refine nm_r (e' := (rx_6 0 0 0 0 0 0)) (rx_u0 rfl rfl) ?_
  refine nm_r (e' := (1 : Int32)) (by decide +kernel) ?_
  refine br_f (by decide +kernel) ?_
  refine br_f (by decide +kernel) ?_
  refine br_f (by decide +kernel) ?_
  refine br_t (by decide +kernel) ?_
  refine br_t (by decide +kernel) ?_
  refine ⟨rx_in16_1, ?_⟩
  refine nm_r (e' := (rx_6 1 5 0 0 0 0)) (rx_u1 rfl (by decide +kernel)) ?_
  refine ⟨rx_in16_1, ?_⟩
  refine nm_r (e' := (rx_6 18 14 0 0 0 0)) (rx_u1 rfl (by decide +kernel)) ?_
  refine ⟨rx_in16_1, ?_⟩
  refine nm_r (e' := (rx_6 0 0 0 0 0 0)) (rx_u1 rfl rfl) ?_
  refine nm_r (e' := (2 : Int32)) (by decide +kernel) ?_
  refine br_f (by decide +kernel) ?_
  refine br_f (by decide +kernel) ?_
  refine br_f (by decide +kernel) ?_
  refine br_t (by decide +kernel) ?_
  refine br_t (by decide +kernel) ?_
  refine ⟨rx_in16_2, ?_⟩
  refine nm_r (e' := (rx_6 1 5 4 0 0 0)) (rx_u2 rfl (by decide +kernel)) ?_
  refine ⟨rx_in16_2, ?_⟩
  refine nm_r (e' := (rx_6 18 14 12 0 0 0)) (rx_u2 rfl (by decide +kernel)) ?_
  refine ⟨rx_in16_2, ?_⟩
  refine nm_r (e' := (rx_6 0 0 0 0 0 0)) (rx_u2 rfl rfl) ?_
  refine nm_r (e' := (3 : Int32)) (by decide +kernel) ?_
  refine ⟨7, ?_⟩
  refine br_f (by decide +kernel) ?_
  refine ⟨rx_in4_0, ?_⟩
  refine nm_r (e' := (rx_6 (-1) 0 0 0 0 0)) (rx_u0 rfl rfl) ?_
  refine nm_r (e' := (1 : Int32)) (by decide +kernel) ?_
  refine br_f (by decide +kernel) ?_
  refine ⟨rx_in4_1, ?_⟩
  refine nm_r (e' := (rx_6 (-1) (-1) 0 0 0 0)) (rx_u1 rfl rfl) ?_
  refine nm_r (e' := (2 : Int32)) (by decide +kernel) ?_
  refine br_f (by decide +kernel) ?_
  refine ⟨rx_in4_2, ?_⟩
  refine nm_r (e' := (rx_6 (-1) (-1) (-1) 0 0 0)) (rx_u2 rfl rfl) ?_
  refine nm_r (e' := (3 : Int32)) (by decide +kernel) ?_
  refine br_f (by decide +kernel) ?_
  refine ⟨rx_in4_3, ?_⟩
  refine nm_r (e' := (rx_6 (-1) (-1) (-1) (-1) 0 0)) (rx_u3 rfl rfl) ?_
  refine nm_r (e' := (4 : Int32)) (by decide +kernel) ?_
  refine br_t (by decide +kernel) ?_
  refine rx_fin_1n hz ?_
  refine br_f (by decide +kernel) ?_
  refine br_f hz ?_
  refine br_t (by decide +kernel) ?_
  refine br_t (by decide +kernel) ?_
  refine br_f (by decide +kernel) ?_
  refine br_t (by decide +kernel) ?_
  refine br_f (by decide +kernel) ?_
  refine br_t (by decide +kernel) ?_
  refine ⟨rx_in4_0, ?_⟩
  refine br_f (by decide +kernel) ?_
  refine br_t (rx_g0 rfl) ?_
  exact hp
theorem rx_law_2p {post : Int32 → St0 → Prop} {x y z kd : Int32} (hk : 1 + ((kd &&& 65535) - (kd &&& 65535) / 3 * 3) = 2) (hz : 0 ≤ z) (hp : post 1 ()) : wpL_lawOf post 98 1568 () x y z kd := by
  refine ⟨by decide, by decide, 97, 1540, by decide, by decide, ?_⟩
  refine rx_init ?_
  refine ⟨(by decide +kernel), ?_⟩
  refine nm_r (e' := (2 : Int32)) hk ?_
  refine br_f (by decide +kernel) ?_
  refine br_f (by decide +kernel) ?_
  refine br_f (by decide +kernel) ?_
  refine ⟨rx_in4_0, ?_⟩
  refine nm_r (e' := (rx_6 x 0 0 0 0 0)) (rx_u0 rfl rfl) ?_
  refine br_f (by decide +kernel) ?_
  refine br_f (by decide +kernel) ?_
  refine br_f (by decide +kernel) ?_
  refine ⟨rx_in4_1, ?_⟩
  refine nm_r (e' := (rx_6 x y 0 0 0 0)) (rx_u1 rfl rfl) ?_
  refine br_f (by decide +kernel) ?_
  refine br_f (by decide +kernel) ?_
  refine br_f (by decide +kernel) ?_
  refine ⟨rx_in4_3, ?_⟩
  refine nm_r (e' := (rx_6 x y 0 z 0 0)) (rx_u3 rfl rfl) ?_
  refine br_f (by decide +kernel) ?_
  refine br_f (by decide +kernel) ?_
  refine br_f (by decide +kernel) ?_
  refine br_t (by decide +kernel) ?_
  refine br_t (by decide +kernel) ?_
  refine ⟨rx_in16_0, ?_⟩
  refine nm_r (e' := (rx_6 2 0 0 0 0 0)) (rx_u0 rfl (by decide +kernel)) ?_
  refine ⟨rx_in16_0, ?_⟩
  refine nm_r (e' := (rx_6 18 0 0 0 0 0)) (rx_u0 rfl (by decide +kernel)) ?_
  refine ⟨rx_in16_0, ?_⟩
  refine nm_r (e' := (rx_6 0 0 0 0 0 0)) (rx_u0 rfl rfl) ?_
  refine nm_r (e' := (1 : Int32)) (by decide +kernel) ?_
  refine br_f (by decide +kernel) ?_
  refine br_f (by decide +kernel) ?_
  refine br_f (by decide +kernel) ?_
  refine br_t (by decide +kernel) ?_
  refine br_t (by decide +kernel) ?_
  refine ⟨rx_in16_1, ?_⟩
  refine nm_r (e' := (rx_6 2 5 0 0 0 0)) (rx_u1 rfl (by decide +kernel)) ?_
  refine ⟨rx_in16_1, ?_⟩
  refine nm_r (e' := (rx_6 18 14 0 0 0 0)) (rx_u1 rfl (by decide +kernel)) ?_
  refine ⟨rx_in16_1, ?_⟩
  refine nm_r (e' := (rx_6 0 0 0 0 0 0)) (rx_u1 rfl rfl) ?_
  refine nm_r (e' := (2 : Int32)) (by decide +kernel) ?_
  refine br_f (by decide +kernel) ?_
  refine br_f (by decide +kernel) ?_
  refine br_f (by decide +kernel) ?_
  refine br_t (by decide +kernel) ?_
  refine br_t (by decide +kernel) ?_
  refine ⟨rx_in16_2, ?_⟩
  refine nm_r (e' := (rx_6 2 5 4 0 0 0)) (rx_u2 rfl (by decide +kernel)) ?_
  refine ⟨rx_in16_2, ?_⟩
  refine nm_r (e' := (rx_6 18 14 12 0 0 0)) (rx_u2 rfl (by decide +kernel)) ?_
  refine ⟨rx_in16_2, ?_⟩
  refine nm_r (e' := (rx_6 0 0 0 0 0 0)) (rx_u2 rfl rfl) ?_
  refine nm_r (e' := (3 : Int32)) (by decide +kernel) ?_
  refine ⟨7, ?_⟩
  refine br_f (by decide +kernel) ?_
  refine ⟨rx_in4_0, ?_⟩
  refine nm_r (e' := (rx_6 (-1) 0 0 0 0 0)) (rx_u0 rfl rfl) ?_
  refine nm_r (e' := (1 : Int32)) (by decide +kernel) ?_
  refine br_f (by decide +kernel) ?_
  refine ⟨rx_in4_1, ?_⟩
  refine nm_r (e' := (rx_6 (-1) (-1) 0 0 0 0)) (rx_u1 rfl rfl) ?_
  refine nm_r (e' := (2 : Int32)) (by decide +kernel) ?_
  refine br_f (by decide +kernel) ?_
  refine ⟨rx_in4_2, ?_⟩
  refine nm_r (e' := (rx_6 (-1) (-1) (-1) 0 0 0)) (rx_u2 rfl rfl) ?_
  refine nm_r (e' := (3 : Int32)) (by decide +kernel) ?_
  refine br_f (by decide +kernel) ?_
  refine ⟨rx_in4_3, ?_⟩
  refine nm_r (e' := (rx_6 (-1) (-1) (-1) (-1) 0 0)) (rx_u3 rfl rfl) ?_
  refine nm_r (e' := (4 : Int32)) (by decide +kernel) ?_
  refine br_t (by decide +kernel) ?_
  refine rx_fin_2p hz ?_
  refine br_f (by decide +kernel) ?_
  refine br_t hz ?_
  refine br_f (by decide +kernel) ?_
  refine br_t (by decide +kernel) ?_
  refine br_t (by decide +kernel) ?_
  refine br_t (by decide +kernel) ?_
  refine br_t (by decide +kernel) ?_
  refine br_f (by decide +kernel) ?_
  refine br_t (by decide +kernel) ?_
  refine ⟨rx_in4_0, ?_⟩
  refine br_t (by decide +kernel) ?_
  refine br_t ((rx_g0 rfl).trans pk_us) ?_
  exact hp
theorem rx_law_2n {post : Int32 → St0 → Prop} {x y z kd : Int32} (hk : 1 + ((kd &&& 65535) - (kd &&& 65535) / 3 * 3) = 2) (hz : ¬ 0 ≤ z) (hp : post 1 ()) : wpL_lawOf post 98 1568 () x y z kd := by
  refine ⟨by decide, by decide, 97, 1540, by decide, by decide, ?_⟩
  refine rx_init ?_
  refine ⟨(by decide +kernel), ?_⟩
  refine nm_r (e' := (2 : Int32)) hk ?_
  refine br_f (by decide +kernel) ?_
  refine br_f (by decide +kernel) ?_
  refine br_f (by decide +kernel) ?_
  refine ⟨rx_in4_0, ?_⟩
  refine nm_r (e' := (rx_6 x 0 0 0 0 0)) (rx_u0 rfl rfl) ?_
  refine br_f (by decide +kernel) ?_
  refine br_f (by decide +kernel) ?_
  refine br_f (by decide +kernel) ?_
  refine ⟨rx_in4_1, ?_⟩
  refine nm_r (e' := (rx_6 x y 0 0 0 0)) (rx_u1 rfl rfl) ?_
  refine br_f (by decide +kernel) ?_
  refine br_f (by decide +kernel) ?_
  refine br_f (by decide +kernel) ?_
  refine ⟨rx_in4_3, ?_⟩
  refine nm_r (e' := (rx_6 x y 0 z 0 0)) (rx_u3 rfl rfl) ?_
  refine br_f (by decide +kernel) ?_
  refine br_f (by decide +kernel) ?_
  refine br_f (by decide +kernel) ?_
  refine br_t (by decide +kernel) ?_
  refine br_t (by decide +kernel) ?_
  refine ⟨rx_in16_0, ?_⟩
  refine nm_r (e' := (rx_6 2 0 0 0 0 0)) (rx_u0 rfl (by decide +kernel)) ?_
  refine ⟨rx_in16_0, ?_⟩
  refine nm_r (e' := (rx_6 18 0 0 0 0 0)) (rx_u0 rfl (by decide +kernel)) ?_
  refine ⟨rx_in16_0, ?_⟩
  refine nm_r (e' := (rx_6 0 0 0 0 0 0)) (rx_u0 rfl rfl) ?_
  refine nm_r (e' := (1 : Int32)) (by decide +kernel) ?_
  refine br_f (by decide +kernel) ?_
  refine br_f (by decide +kernel) ?_
  refine br_f (by decide +kernel) ?_
  refine br_t (by decide +kernel) ?_
  refine br_t (by decide +kernel) ?_
  refine ⟨rx_in16_1, ?_⟩
  refine nm_r (e' := (rx_6 2 5 0 0 0 0)) (rx_u1 rfl (by decide +kernel)) ?_
  refine ⟨rx_in16_1, ?_⟩
  refine nm_r (e' := (rx_6 18 14 0 0 0 0)) (rx_u1 rfl (by decide +kernel)) ?_
  refine ⟨rx_in16_1, ?_⟩
  refine nm_r (e' := (rx_6 0 0 0 0 0 0)) (rx_u1 rfl rfl) ?_
  refine nm_r (e' := (2 : Int32)) (by decide +kernel) ?_
  refine br_f (by decide +kernel) ?_
  refine br_f (by decide +kernel) ?_
  refine br_f (by decide +kernel) ?_
  refine br_t (by decide +kernel) ?_
  refine br_t (by decide +kernel) ?_
  refine ⟨rx_in16_2, ?_⟩
  refine nm_r (e' := (rx_6 2 5 4 0 0 0)) (rx_u2 rfl (by decide +kernel)) ?_
  refine ⟨rx_in16_2, ?_⟩
  refine nm_r (e' := (rx_6 18 14 12 0 0 0)) (rx_u2 rfl (by decide +kernel)) ?_
  refine ⟨rx_in16_2, ?_⟩
  refine nm_r (e' := (rx_6 0 0 0 0 0 0)) (rx_u2 rfl rfl) ?_
  refine nm_r (e' := (3 : Int32)) (by decide +kernel) ?_
  refine ⟨7, ?_⟩
  refine br_f (by decide +kernel) ?_
  refine ⟨rx_in4_0, ?_⟩
  refine nm_r (e' := (rx_6 (-1) 0 0 0 0 0)) (rx_u0 rfl rfl) ?_
  refine nm_r (e' := (1 : Int32)) (by decide +kernel) ?_
  refine br_f (by decide +kernel) ?_
  refine ⟨rx_in4_1, ?_⟩
  refine nm_r (e' := (rx_6 (-1) (-1) 0 0 0 0)) (rx_u1 rfl rfl) ?_
  refine nm_r (e' := (2 : Int32)) (by decide +kernel) ?_
  refine br_f (by decide +kernel) ?_
  refine ⟨rx_in4_2, ?_⟩
  refine nm_r (e' := (rx_6 (-1) (-1) (-1) 0 0 0)) (rx_u2 rfl rfl) ?_
  refine nm_r (e' := (3 : Int32)) (by decide +kernel) ?_
  refine br_f (by decide +kernel) ?_
  refine ⟨rx_in4_3, ?_⟩
  refine nm_r (e' := (rx_6 (-1) (-1) (-1) (-1) 0 0)) (rx_u3 rfl rfl) ?_
  refine nm_r (e' := (4 : Int32)) (by decide +kernel) ?_
  refine br_t (by decide +kernel) ?_
  refine rx_fin_2n hz ?_
  refine br_f (by decide +kernel) ?_
  refine br_f hz ?_
  refine br_f (by decide +kernel) ?_
  refine br_t (by decide +kernel) ?_
  refine br_t (by decide +kernel) ?_
  refine br_f (by decide +kernel) ?_
  refine br_t (by decide +kernel) ?_
  refine br_f (by decide +kernel) ?_
  refine br_t (by decide +kernel) ?_
  refine ⟨rx_in4_0, ?_⟩
  refine br_f (by decide +kernel) ?_
  refine br_t (rx_g0 rfl) ?_
  exact hp
theorem rx_law_30p {post : Int32 → St0 → Prop} {x y z kd : Int32} (hk : 1 + ((kd &&& 65535) - (kd &&& 65535) / 3 * 3) = 3) (hy : y = 0) (hz : 0 ≤ z) (hp : post 1 ()) : wpL_lawOf post 98 1568 () x y z kd := by
  refine ⟨by decide, by decide, 97, 1540, by decide, by decide, ?_⟩
  refine rx_init ?_
  refine ⟨(by decide +kernel), ?_⟩
  refine nm_r (e' := (3 : Int32)) hk ?_
  refine br_f (by decide +kernel) ?_
  refine br_f (by decide +kernel) ?_
  refine br_f (by decide +kernel) ?_
  refine ⟨rx_in4_0, ?_⟩
  refine nm_r (e' := (rx_6 x 0 0 0 0 0)) (rx_u0 rfl rfl) ?_
  refine br_f (by decide +kernel) ?_
  refine br_f (by decide +kernel) ?_
  refine br_f (by decide +kernel) ?_
  refine ⟨rx_in4_1, ?_⟩
  refine nm_r (e' := (rx_6 x y 0 0 0 0)) (rx_u1 rfl rfl) ?_
  refine br_f (by decide +kernel) ?_
  refine br_f (by decide +kernel) ?_
  refine br_f (by decide +kernel) ?_
  refine ⟨rx_in4_3, ?_⟩
  refine nm_r (e' := (rx_6 x y 0 z 0 0)) (rx_u3 rfl rfl) ?_
  refine br_f (by decide +kernel) ?_
  refine br_f (by decide +kernel) ?_
  refine br_f (by decide +kernel) ?_
  refine br_t (by decide +kernel) ?_
  refine br_t (by decide +kernel) ?_
  refine ⟨rx_in16_0, ?_⟩
  refine nm_r (e' := (rx_6 3 0 0 0 0 0)) (rx_u0 rfl (by decide +kernel)) ?_
  refine ⟨rx_in16_0, ?_⟩
  refine nm_r (e' := (rx_6 18 0 0 0 0 0)) (rx_u0 rfl (by decide +kernel)) ?_
  refine ⟨rx_in16_0, ?_⟩
  refine nm_r (e' := (rx_6 0 0 0 0 0 0)) (rx_u0 rfl rfl) ?_
  refine nm_r (e' := (1 : Int32)) (by decide +kernel) ?_
  refine br_f (by decide +kernel) ?_
  refine br_f (by decide +kernel) ?_
  refine br_f (by decide +kernel) ?_
  refine br_t (by decide +kernel) ?_
  refine br_t (by decide +kernel) ?_
  refine ⟨rx_in16_1, ?_⟩
  refine nm_r (e' := (rx_6 3 5 0 0 0 0)) (rx_u1 rfl (by decide +kernel)) ?_
  refine ⟨rx_in16_1, ?_⟩
  refine nm_r (e' := (rx_6 18 14 0 0 0 0)) (rx_u1 rfl (by decide +kernel)) ?_
  refine ⟨rx_in16_1, ?_⟩
  refine nm_r (e' := (rx_6 0 0 0 0 0 0)) (rx_u1 rfl rfl) ?_
  refine nm_r (e' := (2 : Int32)) (by decide +kernel) ?_
  refine br_f (by decide +kernel) ?_
  refine br_f (by decide +kernel) ?_
  refine br_f (by decide +kernel) ?_
  refine br_t (by decide +kernel) ?_
  refine br_t (by decide +kernel) ?_
  refine ⟨rx_in16_2, ?_⟩
  refine nm_r (e' := (rx_6 3 5 4 0 0 0)) (rx_u2 rfl (by decide +kernel)) ?_
  refine ⟨rx_in16_2, ?_⟩
  refine nm_r (e' := (rx_6 18 14 12 0 0 0)) (rx_u2 rfl (by decide +kernel)) ?_
  refine ⟨rx_in16_2, ?_⟩
  refine nm_r (e' := (rx_6 0 0 0 0 0 0)) (rx_u2 rfl rfl) ?_
  refine nm_r (e' := (3 : Int32)) (by decide +kernel) ?_
  refine ⟨7, ?_⟩
  refine br_f (by decide +kernel) ?_
  refine ⟨rx_in4_0, ?_⟩
  refine nm_r (e' := (rx_6 (-1) 0 0 0 0 0)) (rx_u0 rfl rfl) ?_
  refine nm_r (e' := (1 : Int32)) (by decide +kernel) ?_
  refine br_f (by decide +kernel) ?_
  refine ⟨rx_in4_1, ?_⟩
  refine nm_r (e' := (rx_6 (-1) (-1) 0 0 0 0)) (rx_u1 rfl rfl) ?_
  refine nm_r (e' := (2 : Int32)) (by decide +kernel) ?_
  refine br_f (by decide +kernel) ?_
  refine ⟨rx_in4_2, ?_⟩
  refine nm_r (e' := (rx_6 (-1) (-1) (-1) 0 0 0)) (rx_u2 rfl rfl) ?_
  refine nm_r (e' := (3 : Int32)) (by decide +kernel) ?_
  refine br_f (by decide +kernel) ?_
  refine ⟨rx_in4_3, ?_⟩
  refine nm_r (e' := (rx_6 (-1) (-1) (-1) (-1) 0 0)) (rx_u3 rfl rfl) ?_
  refine nm_r (e' := (4 : Int32)) (by decide +kernel) ?_
  refine br_t (by decide +kernel) ?_
  refine rx_fin_30p hy ?_
  refine br_t (by decide +kernel) ?_
  refine br_t hy ?_
  refine br_t hz ?_
  refine br_f (by decide +kernel) ?_
  refine br_f (by decide +kernel) ?_
  refine br_t hy ?_
  refine br_f (by decide +kernel) ?_
  refine br_t (by decide +kernel) ?_
  refine br_f (by decide +kernel) ?_
  refine br_t (by decide +kernel) ?_
  refine ⟨rx_in4_0, ?_⟩
  refine br_f (by decide +kernel) ?_
  refine br_t (rx_g0 rfl) ?_
  exact hp
theorem rx_law_30n {post : Int32 → St0 → Prop} {x y z kd : Int32} (hk : 1 + ((kd &&& 65535) - (kd &&& 65535) / 3 * 3) = 3) (hy : y = 0) (hz : ¬ 0 ≤ z) (hp : post 1 ()) : wpL_lawOf post 98 1568 () x y z kd := by
  refine ⟨by decide, by decide, 97, 1540, by decide, by decide, ?_⟩
  refine rx_init ?_
  refine ⟨(by decide +kernel), ?_⟩
  refine nm_r (e' := (3 : Int32)) hk ?_
  refine br_f (by decide +kernel) ?_
  refine br_f (by decide +kernel) ?_
  refine br_f (by decide +kernel) ?_
  refine ⟨rx_in4_0, ?_⟩
  refine nm_r (e' := (rx_6 x 0 0 0 0 0)) (rx_u0 rfl rfl) ?_
  refine br_f (by decide +kernel) ?_
  refine br_f (by decide +kernel) ?_
  refine br_f (by decide +kernel) ?_
  refine ⟨rx_in4_1, ?_⟩
  refine nm_r (e' := (rx_6 x y 0 0 0 0)) (rx_u1 rfl rfl) ?_
  refine br_f (by decide +kernel) ?_
  refine br_f (by decide +kernel) ?_
  refine br_f (by decide +kernel) ?_
  refine ⟨rx_in4_3, ?_⟩
  refine nm_r (e' := (rx_6 x y 0 z 0 0)) (rx_u3 rfl rfl) ?_
  refine br_f (by decide +kernel) ?_
  refine br_f (by decide +kernel) ?_
  refine br_f (by decide +kernel) ?_
  refine br_t (by decide +kernel) ?_
  refine br_t (by decide +kernel) ?_
  refine ⟨rx_in16_0, ?_⟩
  refine nm_r (e' := (rx_6 3 0 0 0 0 0)) (rx_u0 rfl (by decide +kernel)) ?_
  refine ⟨rx_in16_0, ?_⟩
  refine nm_r (e' := (rx_6 18 0 0 0 0 0)) (rx_u0 rfl (by decide +kernel)) ?_
  refine ⟨rx_in16_0, ?_⟩
  refine nm_r (e' := (rx_6 0 0 0 0 0 0)) (rx_u0 rfl rfl) ?_
  refine nm_r (e' := (1 : Int32)) (by decide +kernel) ?_
  refine br_f (by decide +kernel) ?_
  refine br_f (by decide +kernel) ?_
  refine br_f (by decide +kernel) ?_
  refine br_t (by decide +kernel) ?_
  refine br_t (by decide +kernel) ?_
  refine ⟨rx_in16_1, ?_⟩
  refine nm_r (e' := (rx_6 3 5 0 0 0 0)) (rx_u1 rfl (by decide +kernel)) ?_
  refine ⟨rx_in16_1, ?_⟩
  refine nm_r (e' := (rx_6 18 14 0 0 0 0)) (rx_u1 rfl (by decide +kernel)) ?_
  refine ⟨rx_in16_1, ?_⟩
  refine nm_r (e' := (rx_6 0 0 0 0 0 0)) (rx_u1 rfl rfl) ?_
  refine nm_r (e' := (2 : Int32)) (by decide +kernel) ?_
  refine br_f (by decide +kernel) ?_
  refine br_f (by decide +kernel) ?_
  refine br_f (by decide +kernel) ?_
  refine br_t (by decide +kernel) ?_
  refine br_t (by decide +kernel) ?_
  refine ⟨rx_in16_2, ?_⟩
  refine nm_r (e' := (rx_6 3 5 4 0 0 0)) (rx_u2 rfl (by decide +kernel)) ?_
  refine ⟨rx_in16_2, ?_⟩
  refine nm_r (e' := (rx_6 18 14 12 0 0 0)) (rx_u2 rfl (by decide +kernel)) ?_
  refine ⟨rx_in16_2, ?_⟩
  refine nm_r (e' := (rx_6 0 0 0 0 0 0)) (rx_u2 rfl rfl) ?_
  refine nm_r (e' := (3 : Int32)) (by decide +kernel) ?_
  refine ⟨7, ?_⟩
  refine br_f (by decide +kernel) ?_
  refine ⟨rx_in4_0, ?_⟩
  refine nm_r (e' := (rx_6 (-1) 0 0 0 0 0)) (rx_u0 rfl rfl) ?_
  refine nm_r (e' := (1 : Int32)) (by decide +kernel) ?_
  refine br_f (by decide +kernel) ?_
  refine ⟨rx_in4_1, ?_⟩
  refine nm_r (e' := (rx_6 (-1) (-1) 0 0 0 0)) (rx_u1 rfl rfl) ?_
  refine nm_r (e' := (2 : Int32)) (by decide +kernel) ?_
  refine br_f (by decide +kernel) ?_
  refine ⟨rx_in4_2, ?_⟩
  refine nm_r (e' := (rx_6 (-1) (-1) (-1) 0 0 0)) (rx_u2 rfl rfl) ?_
  refine nm_r (e' := (3 : Int32)) (by decide +kernel) ?_
  refine br_f (by decide +kernel) ?_
  refine ⟨rx_in4_3, ?_⟩
  refine nm_r (e' := (rx_6 (-1) (-1) (-1) (-1) 0 0)) (rx_u3 rfl rfl) ?_
  refine nm_r (e' := (4 : Int32)) (by decide +kernel) ?_
  refine br_t (by decide +kernel) ?_
  refine rx_fin_30n hy ?_
  refine br_t (by decide +kernel) ?_
  refine br_t hy ?_
  refine br_f hz ?_
  refine br_f (by decide +kernel) ?_
  refine br_f (by decide +kernel) ?_
  refine br_t hy ?_
  refine br_f (by decide +kernel) ?_
  refine br_t (by decide +kernel) ?_
  refine br_f (by decide +kernel) ?_
  refine br_t (by decide +kernel) ?_
  refine ⟨rx_in4_0, ?_⟩
  refine br_f (by decide +kernel) ?_
  refine br_t (rx_g0 rfl) ?_
  exact hp
theorem rx_law_3p {post : Int32 → St0 → Prop} {x y z kd : Int32} (hk : 1 + ((kd &&& 65535) - (kd &&& 65535) / 3 * 3) = 3) (hy : ¬ y = 0) (hz : 0 ≤ z) (hp : post 1 ()) : wpL_lawOf post 98 1568 () x y z kd := by
  refine ⟨by decide, by decide, 97, 1540, by decide, by decide, ?_⟩
  refine rx_init ?_
  refine ⟨(by decide +kernel), ?_⟩
  refine nm_r (e' := (3 : Int32)) hk ?_
  refine br_f (by decide +kernel) ?_
  refine br_f (by decide +kernel) ?_
  refine br_f (by decide +kernel) ?_
  refine ⟨rx_in4_0, ?_⟩
  refine nm_r (e' := (rx_6 x 0 0 0 0 0)) (rx_u0 rfl rfl) ?_
  refine br_f (by decide +kernel) ?_
  refine br_f (by decide +kernel) ?_
  refine br_f (by decide +kernel) ?_
  refine ⟨rx_in4_1, ?_⟩
  refine nm_r (e' := (rx_6 x y 0 0 0 0)) (rx_u1 rfl rfl) ?_
  refine br_f (by decide +kernel) ?_
  refine br_f (by decide +kernel) ?_
  refine br_f (by decide +kernel) ?_
  refine ⟨rx_in4_3, ?_⟩
  refine nm_r (e' := (rx_6 x y 0 z 0 0)) (rx_u3 rfl rfl) ?_
  refine br_f (by decide +kernel) ?_
  refine br_f (by decide +kernel) ?_
  refine br_f (by decide +kernel) ?_
  refine br_t (by decide +kernel) ?_
  refine br_t (by decide +kernel) ?_
  refine ⟨rx_in16_0, ?_⟩
  refine nm_r (e' := (rx_6 3 0 0 0 0 0)) (rx_u0 rfl (by decide +kernel)) ?_
  refine ⟨rx_in16_0, ?_⟩
  refine nm_r (e' := (rx_6 18 0 0 0 0 0)) (rx_u0 rfl (by decide +kernel)) ?_
  refine ⟨rx_in16_0, ?_⟩
  refine nm_r (e' := (rx_6 0 0 0 0 0 0)) (rx_u0 rfl rfl) ?_
  refine nm_r (e' := (1 : Int32)) (by decide +kernel) ?_
  refine br_f (by decide +kernel) ?_
  refine br_f (by decide +kernel) ?_
  refine br_f (by decide +kernel) ?_
  refine br_t (by decide +kernel) ?_
  refine br_t (by decide +kernel) ?_
  refine ⟨rx_in16_1, ?_⟩
  refine nm_r (e' := (rx_6 3 5 0 0 0 0)) (rx_u1 rfl (by decide +kernel)) ?_
  refine ⟨rx_in16_1, ?_⟩
  refine nm_r (e' := (rx_6 18 14 0 0 0 0)) (rx_u1 rfl (by decide +kernel)) ?_
  refine ⟨rx_in16_1, ?_⟩
  refine nm_r (e' := (rx_6 0 0 0 0 0 0)) (rx_u1 rfl rfl) ?_
  refine nm_r (e' := (2 : Int32)) (by decide +kernel) ?_
  refine br_f (by decide +kernel) ?_
  refine br_f (by decide +kernel) ?_
  refine br_f (by decide +kernel) ?_
  refine br_t (by decide +kernel) ?_
  refine br_t (by decide +kernel) ?_
  refine ⟨rx_in16_2, ?_⟩
  refine nm_r (e' := (rx_6 3 5 4 0 0 0)) (rx_u2 rfl (by decide +kernel)) ?_
  refine ⟨rx_in16_2, ?_⟩
  refine nm_r (e' := (rx_6 18 14 12 0 0 0)) (rx_u2 rfl (by decide +kernel)) ?_
  refine ⟨rx_in16_2, ?_⟩
  refine nm_r (e' := (rx_6 0 0 0 0 0 0)) (rx_u2 rfl rfl) ?_
  refine nm_r (e' := (3 : Int32)) (by decide +kernel) ?_
  refine ⟨7, ?_⟩
  refine br_f (by decide +kernel) ?_
  refine ⟨rx_in4_0, ?_⟩
  refine nm_r (e' := (rx_6 (-1) 0 0 0 0 0)) (rx_u0 rfl rfl) ?_
  refine nm_r (e' := (1 : Int32)) (by decide +kernel) ?_
  refine br_f (by decide +kernel) ?_
  refine ⟨rx_in4_1, ?_⟩
  refine nm_r (e' := (rx_6 (-1) (-1) 0 0 0 0)) (rx_u1 rfl rfl) ?_
  refine nm_r (e' := (2 : Int32)) (by decide +kernel) ?_
  refine br_f (by decide +kernel) ?_
  refine ⟨rx_in4_2, ?_⟩
  refine nm_r (e' := (rx_6 (-1) (-1) (-1) 0 0 0)) (rx_u2 rfl rfl) ?_
  refine nm_r (e' := (3 : Int32)) (by decide +kernel) ?_
  refine br_f (by decide +kernel) ?_
  refine ⟨rx_in4_3, ?_⟩
  refine nm_r (e' := (rx_6 (-1) (-1) (-1) (-1) 0 0)) (rx_u3 rfl rfl) ?_
  refine nm_r (e' := (4 : Int32)) (by decide +kernel) ?_
  refine br_t (by decide +kernel) ?_
  refine rx_fin_3p hy hz ?_
  refine br_t (by decide +kernel) ?_
  refine br_f hy ?_
  refine br_t hz ?_
  refine br_f (by decide +kernel) ?_
  refine br_f (by decide +kernel) ?_
  refine br_f hy ?_
  refine ⟨hy, ?_⟩
  refine br_t (by decide +kernel) ?_
  refine br_t (by decide +kernel) ?_
  refine br_t (by decide +kernel) ?_
  refine br_f (by decide +kernel) ?_
  refine br_t (by decide +kernel) ?_
  refine ⟨rx_in4_0, ?_⟩
  refine br_t (by decide +kernel) ?_
  refine br_t ((rx_g0 rfl).trans pk_us) ?_
  exact hp
theorem rx_law_3n {post : Int32 → St0 → Prop} {x y z kd : Int32} (hk : 1 + ((kd &&& 65535) - (kd &&& 65535) / 3 * 3) = 3) (hy : ¬ y = 0) (hz : ¬ 0 ≤ z) (hp : post 1 ()) : wpL_lawOf post 98 1568 () x y z kd := by
  refine ⟨by decide, by decide, 97, 1540, by decide, by decide, ?_⟩
  refine rx_init ?_
  refine ⟨(by decide +kernel), ?_⟩
  refine nm_r (e' := (3 : Int32)) hk ?_
  refine br_f (by decide +kernel) ?_
  refine br_f (by decide +kernel) ?_
  refine br_f (by decide +kernel) ?_
  refine ⟨rx_in4_0, ?_⟩
  refine nm_r (e' := (rx_6 x 0 0 0 0 0)) (rx_u0 rfl rfl) ?_
  refine br_f (by decide +kernel) ?_
  refine br_f (by decide +kernel) ?_
  refine br_f (by decide +kernel) ?_
  refine ⟨rx_in4_1, ?_⟩
  refine nm_r (e' := (rx_6 x y 0 0 0 0)) (rx_u1 rfl rfl) ?_
  refine br_f (by decide +kernel) ?_
  refine br_f (by decide +kernel) ?_
  refine br_f (by decide +kernel) ?_
  refine ⟨rx_in4_3, ?_⟩
  refine nm_r (e' := (rx_6 x y 0 z 0 0)) (rx_u3 rfl rfl) ?_
  refine br_f (by decide +kernel) ?_
  refine br_f (by decide +kernel) ?_
  refine br_f (by decide +kernel) ?_
  refine br_t (by decide +kernel) ?_
  refine br_t (by decide +kernel) ?_
  refine ⟨rx_in16_0, ?_⟩
  refine nm_r (e' := (rx_6 3 0 0 0 0 0)) (rx_u0 rfl (by decide +kernel)) ?_
  refine ⟨rx_in16_0, ?_⟩
  refine nm_r (e' := (rx_6 18 0 0 0 0 0)) (rx_u0 rfl (by decide +kernel)) ?_
  refine ⟨rx_in16_0, ?_⟩
  refine nm_r (e' := (rx_6 0 0 0 0 0 0)) (rx_u0 rfl rfl) ?_
  refine nm_r (e' := (1 : Int32)) (by decide +kernel) ?_
  refine br_f (by decide +kernel) ?_
  refine br_f (by decide +kernel) ?_
  refine br_f (by decide +kernel) ?_
  refine br_t (by decide +kernel) ?_
  refine br_t (by decide +kernel) ?_
  refine ⟨rx_in16_1, ?_⟩
  refine nm_r (e' := (rx_6 3 5 0 0 0 0)) (rx_u1 rfl (by decide +kernel)) ?_
  refine ⟨rx_in16_1, ?_⟩
  refine nm_r (e' := (rx_6 18 14 0 0 0 0)) (rx_u1 rfl (by decide +kernel)) ?_
  refine ⟨rx_in16_1, ?_⟩
  refine nm_r (e' := (rx_6 0 0 0 0 0 0)) (rx_u1 rfl rfl) ?_
  refine nm_r (e' := (2 : Int32)) (by decide +kernel) ?_
  refine br_f (by decide +kernel) ?_
  refine br_f (by decide +kernel) ?_
  refine br_f (by decide +kernel) ?_
  refine br_t (by decide +kernel) ?_
  refine br_t (by decide +kernel) ?_
  refine ⟨rx_in16_2, ?_⟩
  refine nm_r (e' := (rx_6 3 5 4 0 0 0)) (rx_u2 rfl (by decide +kernel)) ?_
  refine ⟨rx_in16_2, ?_⟩
  refine nm_r (e' := (rx_6 18 14 12 0 0 0)) (rx_u2 rfl (by decide +kernel)) ?_
  refine ⟨rx_in16_2, ?_⟩
  refine nm_r (e' := (rx_6 0 0 0 0 0 0)) (rx_u2 rfl rfl) ?_
  refine nm_r (e' := (3 : Int32)) (by decide +kernel) ?_
  refine ⟨7, ?_⟩
  refine br_f (by decide +kernel) ?_
  refine ⟨rx_in4_0, ?_⟩
  refine nm_r (e' := (rx_6 (-1) 0 0 0 0 0)) (rx_u0 rfl rfl) ?_
  refine nm_r (e' := (1 : Int32)) (by decide +kernel) ?_
  refine br_f (by decide +kernel) ?_
  refine ⟨rx_in4_1, ?_⟩
  refine nm_r (e' := (rx_6 (-1) (-1) 0 0 0 0)) (rx_u1 rfl rfl) ?_
  refine nm_r (e' := (2 : Int32)) (by decide +kernel) ?_
  refine br_f (by decide +kernel) ?_
  refine ⟨rx_in4_2, ?_⟩
  refine nm_r (e' := (rx_6 (-1) (-1) (-1) 0 0 0)) (rx_u2 rfl rfl) ?_
  refine nm_r (e' := (3 : Int32)) (by decide +kernel) ?_
  refine br_f (by decide +kernel) ?_
  refine ⟨rx_in4_3, ?_⟩
  refine nm_r (e' := (rx_6 (-1) (-1) (-1) (-1) 0 0)) (rx_u3 rfl rfl) ?_
  refine nm_r (e' := (4 : Int32)) (by decide +kernel) ?_
  refine br_t (by decide +kernel) ?_
  refine rx_fin_3n hy hz ?_
  refine br_t (by decide +kernel) ?_
  refine br_f hy ?_
  refine br_f hz ?_
  refine br_f (by decide +kernel) ?_
  refine br_f (by decide +kernel) ?_
  refine br_f hy ?_
  refine ⟨hy, ?_⟩
  refine br_t (by decide +kernel) ?_
  refine br_f (by decide +kernel) ?_
  refine br_t (by decide +kernel) ?_
  refine br_f (by decide +kernel) ?_
  refine br_t (by decide +kernel) ?_
  refine ⟨rx_in4_0, ?_⟩
  refine br_f (by decide +kernel) ?_
  refine br_t (rx_g0 rfl) ?_
  exact hp
end
section
theorem rx_kind (kd : Int32) : 1 + ((kd &&& 65535) - (kd &&& 65535) / 3 * 3) = 1 ∨ 1 + ((kd &&& 65535) - (kd &&& 65535) / 3 * 3) = 2 ∨ 1 + ((kd &&& 65535) - (kd &&& 65535) / 3 * 3) = 3 := by
  obtain ⟨j, hj, e⟩ := pk_andE kd (m := 65535) 16 (by decide)
  have r : nI j - nI j / nI 3 * nI 3 = nI (j % 3) := pk_rem (by omega) (by omega) (by omega)
  rw [e]
  have r' : nI j - nI j / 3 * 3 = nI (j % 3) := r
  rw [r']
  have q : j % 3 = 0 ∨ j % 3 = 1 ∨ j % 3 = 2 := by omega
  rcases q with q | q | q
  · rw [q]
    exact Or.inl (by decide +kernel)
  · rw [q]
    exact Or.inr (Or.inl (by decide +kernel))
  · rw [q]
    exact Or.inr (Or.inr (by decide +kernel))
theorem rx_all {post : Int32 → St0 → Prop} (x y z kd : Int32) (hp : post 1 ()) : wpL_lawOf post 98 1568 () x y z kd := by
  rcases rx_kind kd with hk | hk | hk
  · by_cases hz : 0 ≤ z
    · exact rx_law_1p hk hz hp
    · exact rx_law_1n hk hz hp
  · by_cases hz : 0 ≤ z
    · exact rx_law_2p hk hz hp
    · exact rx_law_2n hk hz hp
  · by_cases hy : y = 0
    · by_cases hz : 0 ≤ z
      · exact rx_law_30p hk hy hz hp
      · exact rx_law_30n hk hy hz hp
    · by_cases hz : 0 ≤ z
      · exact rx_law_3p hk hy hz hp
      · exact rx_law_3n hk hy hz hp
theorem rx_cell {post : Int32 → Prop} {L : Nat} {xs : Nat → Int32} (hL : L ≤ 4) (k : Nat) (hk : k < 4) (h : ∀ v, post v) : wpL_cellAt post L xs () (nI k) :=
  pk_le L k (fun _ => h _) (fun z => ⟨pk_in k L z, h _⟩)
theorem i_vc (xs : Nat → Int32) (L : Nat) (hL : L ≤ 4) : wpL_law (fun r => r = 1) L xs := by
  unfold wpL_law
  refine rx_cell hL 0 (by decide) (fun x => ?_)
  refine rx_cell hL 1 (by decide) (fun y => ?_)
  refine rx_cell hL 2 (by decide) (fun z => ?_)
  refine rx_cell hL 3 (by decide) (fun kd => ?_)
  refine ⟨98, 1568, by decide, by decide, ?_⟩
  exact rx_all x y z kd rfl
end
