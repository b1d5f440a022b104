section
/-- the place of a key among the first n keys: pure -/
def cs_pos (f : Nat → Int32) (k : Int32) : Nat → Nat
  | 0 => 0
  | n + 1 => if f n < k then n + 1 else cs_pos f k n
theorem cs_pos_le (f : Nat → Int32) (k : Int32) : ∀ n, cs_pos f k n ≤ n := by
  intro n
  induction n with
  | zero => exact Nat.le_refl 0
  | succ n ih =>
    unfold cs_pos
    split
    · exact Nat.le_refl _
    · omega
theorem cs_tk {post : Int32 → Prop} {x k : Int32} (h : 512 * x = k) (H : post k) : wpX_threadKey post () x := ek_v (P := post) h H
theorem cs_ik {post : Int32 → Prop} {x y k : Int32} (h : 512 * x + y + 1 = k) (H : post k) : wpX_itemKey post () x y := ek_v (P := post) h H
theorem cs_c0 : (0 : Int32).toNatClampNeg = 0 := by decide
theorem cs_z5 (i : Nat) : (5 : Int32) * 0 + nI i = nI i := by
  rw [show (5 : Int32) * 0 = nI 0 by decide, nI_add, Nat.zero_add]
theorem cs_c5 {i : Nat} (h : i < 2 ^ 31) : ((5 : Int32) * 0 + nI i).toNatClampNeg = i := by
  rw [cs_z5, nI_clamp h]
theorem cs_c51 {i : Nat} (h : i + 1 < 2 ^ 31) : ((5 : Int32) * 0 + nI i + 1).toNatClampNeg = i + 1 := by
  rw [cs_z5, nI_1, nI_clamp h]
theorem cs_n1 : nI 1 = 1 := by decide
section
variable {k : Int32} {d pl pa sk g pr fb : Int32} {a1 a2 a3 a4 a5 : Nat → Int32} {a6 : Nat → Int64} {a7 a8 a9 a10 a11 : Nat → Int32}
theorem cs_descend {post : Int32 → St2 → Prop} (h1 : a1 0 = 0) (h3 : a3 0 = 1)
    (H : post 0 (0, pl, pa, sk, g, pr, fb, a1, a2, a3, a4, a5, a6, a7, a8, a9, a10, a11)) : wpX_descend post (d, pl, pa, sk, g, pr, fb, a1, a2, a3, a4, a5, a6, a7, a8, a9, a10, a11) 0 k := by
  refine And.intro (pk_in 0 2 (by omega)) (nm_r (e' := 0) ?_ ⟨1, ?_⟩)
  · rw [cs_c0]
    exact h1
  · exact br_f (by decide) (And.intro (pk_in 0 80 (by omega)) (br_f (by rw [cs_c0, h3]; decide) H))
theorem cs_position {post : Int32 → Prop} {n : Nat} (h4 : a4 0 = nI n) (hn : n ≤ 5)
    (H : post (nI (cs_pos a5 k n))) : wpX_position post (d, pl, pa, sk, g, pr, fb, a1, a2, a3, a4, a5, a6, a7, a8, a9, a10, a11) 0 k := by
  refine loop_0 (σ := Unit) (fun m i _ => wX_position_5 post 0 k d pl pa sk g pr fb a1 a2 a3 a4 a5 a6 a7 a8 a9 a10 a11 m (nI (cs_pos a5 k i)) (nI i)) (fun _ _ => True) n () trivial ?_ ?_
  · intro m s _
    exact And.intro (pk_in 0 80 (by omega)) (br_t (by rw [cs_c0, h4]; exact nI_le (Nat.le_refl n) (by omega)) H)
  · intro m i s hi _ hw
    have t : wX_position_5 post 0 k d pl pa sk g pr fb a1 a2 a3 a4 a5 a6 a7 a8 a9 a10 a11 m (nI (cs_pos a5 k (i + 1))) (nI (i + 1)) := hw () trivial
    refine And.intro (pk_in 0 80 (by omega)) (br_f (by rw [cs_c0, h4]; exact nI_ge hi (by omega)) (And.intro (pk_in i 400 (by omega) (cs_z5 i)) ?_))
    by_cases c : a5 i < k
    · have ep : cs_pos a5 k (i + 1) = i + 1 := if_pos c
      rw [ep] at t
      exact br_f (by rw [cs_c5 (by omega)]; exact Int32.not_le.mpr c) (nm_r (nI_1 i) (nm_r (nI_1 i) t))
    · have ep : cs_pos a5 k (i + 1) = cs_pos a5 k i := if_neg c
      rw [ep] at t
      exact br_t (by rw [cs_c5 (by omega)]; exact Int32.not_lt.mp c) (nm_r (nI_1 i) t)
theorem cs_seek_in {post : St2 → Prop} {n p : Nat} (h1 : a1 0 = 0) (h3 : a3 0 = 1) (h4 : a4 0 = nI n) (hn : n ≤ 5)
    (hp : cs_pos a5 k n = p) (hpn : p < n) (H : post (0, 0, nI p, sk, g, pr, fb, a1, a2, a3, a4, a5, a6, a7, a8, a9, a10, a11)) : wpX_seek post (d, pl, pa, sk, g, pr, fb, a1, a2, a3, a4, a5, a6, a7, a8, a9, a10, a11) 0 k := by
  subst hp
  unfold wpX_seek
  exact cs_descend h1 h3 (cs_position h4 hn (And.intro (pk_in 0 80 (by omega)) (br_t (by rw [cs_c0, h4]; exact nI_lt hpn (by omega)) H)))
theorem cs_seek_out {post : St2 → Prop} {n : Nat} (h1 : a1 0 = 0) (h3 : a3 0 = 1) (h4 : a4 0 = nI n) (h8 : a8 0 = -1) (hn : n ≤ 5)
    (hp : cs_pos a5 k n = n) (H : post (0, -1, 0, sk, g, pr, fb, a1, a2, a3, a4, a5, a6, a7, a8, a9, a10, a11)) : wpX_seek post (d, pl, pa, sk, g, pr, fb, a1, a2, a3, a4, a5, a6, a7, a8, a9, a10, a11) 0 k := by
  unfold wpX_seek
  exact cs_descend h1 h3 (cs_position h4 hn (And.intro (pk_in 0 80 (by omega)) (br_f (by rw [cs_c0, h4, hp]; exact nI_nlt (Nat.le_refl n) (by omega)) (And.intro (pk_in 0 80 (by omega)) (nm_r (e' := -1) (by rw [cs_c0]; exact h8) H)))))
theorem cs_loc_t {post : Int32 → St2 → Prop} {n p : Nat} (h1 : a1 0 = 0) (h3 : a3 0 = 1) (h4 : a4 0 = nI n) (hn : n ≤ 5)
    (hp : cs_pos a5 k n = p) (hpn : p < n) (hk : a5 p = k) (H : post 1 (0, 0, nI p, sk, g, pr, fb, a1, a2, a3, a4, a5, a6, a7, a8, a9, a10, a11)) : wpX_locate post (d, pl, pa, sk, g, pr, fb, a1, a2, a3, a4, a5, a6, a7, a8, a9, a10, a11) 0 k := by
  unfold wpX_locate
  exact cs_seek_in h1 h3 h4 hn hp hpn (br_f (by decide) (And.intro (pk_in p 400 (by omega) (cs_z5 p)) (br_t (by rw [cs_c5 (by omega)]; exact hk) H)))
theorem cs_loc_f {post : Int32 → St2 → Prop} {n : Nat} (h1 : a1 0 = 0) (h3 : a3 0 = 1) (h4 : a4 0 = nI n) (h8 : a8 0 = -1) (hn : n ≤ 5)
    (hp : cs_pos a5 k n = n) (H : post 0 (0, -1, 0, sk, g, pr, fb, a1, a2, a3, a4, a5, a6, a7, a8, a9, a10, a11)) : wpX_locate post (d, pl, pa, sk, g, pr, fb, a1, a2, a3, a4, a5, a6, a7, a8, a9, a10, a11) 0 k := by
  unfold wpX_locate
  exact cs_seek_out h1 h3 h4 h8 hn hp (br_t (by decide) H)
theorem cs_put_old {post : St2 → Prop} {v : Int64} {n p : Nat} (h1 : a1 0 = 0) (h3 : a3 0 = 1) (h4 : a4 0 = nI n) (hn : n ≤ 5)
    (hp : cs_pos a5 k n = p) (hpn : p < n) (hk : a5 p = k) (H : post (0, pl, pa, sk, g, pr, fb, a1, a2, a3, a4, a5, vp_updL a6 p v, a7, a8, a9, a10, a11)) : wpX_putRecord post (d, pl, pa, sk, g, pr, fb, a1, a2, a3, a4, a5, a6, a7, a8, a9, a10, a11) 0 k v := by
  subst hp
  unfold wpX_putRecord
  exact cs_descend h1 h3 (cs_position h4 hn (And.intro (pk_in 0 80 (by omega)) (br_f (by rw [cs_c0, h4]; exact nI_ge hpn (by omega))
    (And.intro (pk_in (cs_pos a5 k n) 400 (by omega) (cs_z5 _)) (br_t (by rw [cs_c5 (by omega)]; exact hk)
      (And.intro (pk_in (cs_pos a5 k n) 400 (by omega) (cs_z5 _)) (nm_r (by rw [cs_c5 (by omega)]) H)))))))
theorem cs_open {post : St2 → Prop} {n : Nat} (h4 : a4 0 = nI n) (hn : n ≤ 3)
    (H : post (d, pl, pa, sk, g, pr, fb, a1, a2, a3, upd a4 0 (nI (n + 1)), a5, a6, a7, a8, a9, a10, a11)) : wpX_openSlot post (d, pl, pa, sk, g, pr, fb, a1, a2, a3, a4, a5, a6, a7, a8, a9, a10, a11) 0 (nI n) :=
  And.intro (pk_in 0 80 (by omega)) (nm_r (e' := nI n) (by rw [cs_c0]; exact h4) ⟨1, br_t (nI_le (Nat.le_refl n) (by omega))
    (And.intro (pk_in 0 80 (by omega)) (And.intro (pk_in 0 80 (by omega)) (nm_r (by rw [cs_c0, h4, nI_1]) H)))⟩)
theorem cs_put_new {post : St2 → Prop} {v : Int64} {n : Nat} (h1 : a1 0 = 0) (h3 : a3 0 = 1) (h4 : a4 0 = nI n) (hn : n ≤ 3)
    (hp : cs_pos a5 k n = n) (H : post (0, pl, pa, sk, g, pr, fb, a1, a2, a3, upd a4 0 (nI (n + 1)), upd a5 n k, vp_updL a6 n v, a7, a8, a9, a10, a11)) : wpX_putRecord post (d, pl, pa, sk, g, pr, fb, a1, a2, a3, a4, a5, a6, a7, a8, a9, a10, a11) 0 k v := by
  unfold wpX_putRecord
  refine cs_descend h1 h3 (cs_position h4 (by omega) ?_)
  rw [hp]
  refine And.intro (pk_in 0 80 (by omega)) (br_t (by rw [cs_c0, h4]; exact nI_le (Nat.le_refl n) (by omega)) ?_)
  unfold wX_putRecord_59
  refine cs_open h4 hn ?_
  refine And.intro (pk_in n 400 (by omega) (cs_z5 _)) (nm_r (e' := upd a5 n k) (by rw [cs_c5 (by omega)]) (And.intro (pk_in n 400 (by omega) (cs_z5 _)) (nm_r (e' := vp_updL a6 n v) (by rw [cs_c5 (by omega)]) ⟨1, ?_⟩)))
  exact br_f (by decide) (And.intro (pk_in 0 80 (by omega)) (br_t (by rw [cs_c0, pk_us]; exact nI_le (b := 4) (by omega) (by decide)) H))
theorem cs_d179 {post : St2 → Prop} (h1 : a1 0 = 0) (h3 : a3 0 = 1) (H : post (d, pl, pa, sk, g, pr, fb, a1, a2, a3, a4, a5, a6, a7, a8, a9, a10, a11)) : wX_dropRecord_179 post 0 d pl pa sk g pr fb a1 a2 a3 a4 a5 a6 a7 a8 a9 a10 a11 :=
  And.intro (pk_in 0 2 (by omega)) (nm_r (e' := 0) (by rw [cs_c0]; exact h1) (And.intro (pk_in 0 80 (by omega)) (br_f (by rw [cs_c0, h3]; decide) H)))
theorem cs_d46 {post : St2 → Prop} {n m : Nat} (h1 : a1 0 = 0) (h3 : a3 0 = 1) (h4 : a4 0 = nI (n + 1)) (hn : n ≤ 4)
    (H : post (0, pl, pa, sk, g, pr, fb, a1, a2, a3, upd a4 0 (nI n), a5, a6, a7, a8, a9, a10, a11)) : wX_dropRecord_46 post 0 0 0 pl pa sk g pr fb (m + 1) (nI n) a1 a2 a3 a4 a5 a6 a7 a8 a9 a10 a11 :=
  And.intro (pk_in 0 80 (by omega)) (br_t (by rw [cs_c0, h4, nI_1]; exact nI_le (Nat.le_refl _) (by omega))
    (And.intro (pk_in 0 80 (by omega)) (And.intro (pk_in 0 80 (by omega)) (nm_r (e' := upd a4 0 (nI n)) (by rw [cs_c0, h4, nI_pred]) ⟨1, br_t (by decide) (cs_d179 h1 h3 H)⟩))))
theorem cs_drop_last {post : St2 → Prop} {n : Nat} (h1 : a1 0 = 0) (h3 : a3 0 = 1) (h4 : a4 0 = nI (n + 1)) (hn : n ≤ 4)
    (hp : cs_pos a5 k (n + 1) = n) (hk : a5 n = k) (H : post (0, pl, pa, sk, g, pr, fb, a1, a2, a3, upd a4 0 (nI n), a5, a6, a7, a8, a9, a10, a11)) : wpX_dropRecord post (d, pl, pa, sk, g, pr, fb, a1, a2, a3, a4, a5, a6, a7, a8, a9, a10, a11) 0 k := by
  unfold wpX_dropRecord
  refine cs_descend h1 h3 (cs_position h4 (by omega) ?_)
  rw [hp]
  exact And.intro (pk_in 0 80 (by omega)) (br_f (by rw [cs_c0, h4]; exact nI_ge (by omega) (by omega))
    (And.intro (pk_in n 400 (by omega) (cs_z5 _)) (br_t (by rw [cs_c5 (by omega)]; exact hk) ⟨1, cs_d46 h1 h3 h4 hn H⟩)))
theorem cs_drop_one {post : St2 → Prop} {n : Nat} (h1 : a1 0 = 0) (h3 : a3 0 = 1) (h4 : a4 0 = nI (n + 2)) (hn : n ≤ 3)
    (hp : cs_pos a5 k (n + 2) = n) (hk : a5 n = k)
    (H : post (0, pl, pa, sk, g, pr, fb, a1, a2, a3, upd a4 0 (nI (n + 1)), upd a5 n (a5 (n + 1)), vp_updL a6 n (a6 (n + 1)), a7, a8, a9, a10, a11)) : wpX_dropRecord post (d, pl, pa, sk, g, pr, fb, a1, a2, a3, a4, a5, a6, a7, a8, a9, a10, a11) 0 k := by
  unfold wpX_dropRecord
  refine cs_descend h1 h3 (cs_position h4 (by omega) ?_)
  rw [hp]
  refine And.intro (pk_in 0 80 (by omega)) (br_f (by rw [cs_c0, h4]; exact nI_ge (by omega) (by omega))
    (And.intro (pk_in n 400 (by omega) (cs_z5 _)) (br_t (by rw [cs_c5 (by omega)]; exact hk) ⟨2, ?_⟩)))
  exact And.intro (pk_in 0 80 (by omega)) (br_f (by rw [cs_c0, h4, nI_1]; exact nI_ge (by omega) (by omega))
    (And.intro (pk_in (n + 1) 400 (by omega) (by rw [cs_z5, nI_1])) (And.intro (pk_in n 400 (by omega) (cs_z5 _)) (nm_r (e' := upd a5 n (a5 (n + 1))) (by rw [cs_c5 (by omega), cs_c51 (by omega)])
      (And.intro (pk_in (n + 1) 400 (by omega) (by rw [cs_z5, nI_1])) (And.intro (pk_in n 400 (by omega) (cs_z5 _)) (nm_r (e' := vp_updL a6 n (a6 (n + 1))) (by rw [cs_c5 (by omega), cs_c51 (by omega)])
        (nm_r (nI_1 n) (cs_d46 h1 h3 h4 (by omega) H)))))))))
end
end
section
/-- an extent: its start below, its length above -/
def cs_ext (s l : Nat) : Int32 := nI s ||| (nI l <<< ((7 : Int32) &&& 31))
/-- extents in an item's record; extent k of it -/
def cs_cnt (r : Int64) : Int32 := (((r.toUInt64 >>> ((6 : Int32).toInt64.toUInt64 &&& Int64.toUInt64 63)).toInt64).toInt32) &&& 7
def cs_inl (r : Int64) (k : Int32) : Int32 := (((r.toUInt64 >>> ((9 + (13 * k)).toInt64.toUInt64 &&& Int64.toUInt64 63)).toInt64).toInt32) &&& 8191
/-- a record with one more extent, with one less -/
def cs_grow (r : Int64) (e k : Int32) : Int64 := (r + 64) ||| (e.toInt64 <<< ((9 + (13 * k)).toInt64 &&& 63))
def cs_less (r : Int64) (k : Int32) : Int64 := (r - 64) &&& (((8191 : Int64) <<< ((9 + (13 * (k - 1))).toInt64 &&& 63)) ^^^ (-1))
def cs_r1 (a : Nat) : Int64 := cs_grow 2 (cs_ext 0 a) (nI 0)
def cs_r2 (a b : Nat) : Int64 := cs_grow (cs_r1 a) (cs_ext a b) (nI 1)
theorem cs_eS : ∀ s, s < 33 → ∀ l, l < 33 → cs_ext s l &&& 127 = nI s := by decide +kernel
theorem cs_eL : ∀ s, s < 33 → ∀ l, l < 33 → ((cs_ext s l).toUInt32 >>> ((7 : Int32).toUInt32 &&& Int32.toUInt32 31)).toInt32 = nI l := by decide +kernel
theorem cs_cnt0 : cs_cnt 2 = nI 0 := by decide +kernel
theorem cs_cnt1 : ∀ a, a < 33 → cs_cnt (cs_r1 a) = nI 1 := by decide +kernel
theorem cs_cnt2 : ∀ a, a < 33 → ∀ b, b < 33 → cs_cnt (cs_r2 a b) = nI 2 := by decide +kernel
theorem cs_in10 : ∀ a, a < 33 → cs_inl (cs_r1 a) (nI 0) = cs_ext 0 a := by decide +kernel
theorem cs_in20 : ∀ a, a < 33 → ∀ b, b < 33 → cs_inl (cs_r2 a b) (nI 0) = cs_ext 0 a := by decide +kernel
theorem cs_in21 : ∀ a, a < 33 → ∀ b, b < 33 → cs_inl (cs_r2 a b) (nI 1) = cs_ext a b := by decide +kernel
theorem cs_less1 : ∀ a, a < 33 → cs_less (cs_r1 a) (nI 1) = 2 := by decide +kernel
theorem cs_less2 : ∀ a, a < 33 → ∀ b, b < 33 → cs_less (cs_r2 a b) (nI 2) = cs_r1 a := by decide +kernel
/-- lengths and sums of at most two extents -/
def cs_tot (l0 l1 : Nat) : Nat → Nat
  | 0 => 0
  | 1 => l0
  | _ + 2 => l0 + l1
def cs_len (l0 l1 : Nat) : Nat → Nat
  | 0 => l0
  | _ + 1 => l1
theorem cs_tot1 (l0 l1 : Nat) : ∀ k, k < 2 → cs_tot l0 l1 (k + 1) = cs_tot l0 l1 k + cs_len l0 l1 k
  | 0, _ => (Nat.zero_add l0).symm
  | 1, _ => rfl
/-- the record r: n extents of lengths l0, l1, one behind the other from block 0 on -/
def cs_R (r : Int64) (n l0 l1 : Nat) : Prop := n ≤ 2 ∧ l0 ≤ 32 ∧ l1 ≤ 32 ∧ cs_cnt r = nI n ∧ ∀ k, k < n → cs_inl r (nI k) = cs_ext (cs_tot l0 l1 k) (cs_len l0 l1 k)
theorem cs_R0 : cs_R 2 0 0 0 := ⟨by omega, by omega, by omega, cs_cnt0, fun k hk => absurd hk (by omega)⟩
theorem cs_R1 {a : Nat} (ha : a ≤ 32) : cs_R (cs_r1 a) 1 a 0 := by
  refine ⟨by omega, ha, by omega, cs_cnt1 a (by omega), fun k hk => ?_⟩
  obtain rfl : k = 0 := by omega
  exact cs_in10 a (by omega)
theorem cs_R2 {a b : Nat} (ha : a ≤ 32) (hb : b ≤ 32) : cs_R (cs_r2 a b) 2 a b := by
  refine ⟨by omega, ha, hb, cs_cnt2 a (by omega) b (by omega), fun k hk => ?_⟩
  rcases (by omega : k = 0 ∨ k = 1) with rfl | rfl
  · exact cs_in20 a (by omega) b (by omega)
  · exact cs_in21 a (by omega) b (by omega)
theorem cs_totS {l0 l1 n k : Nat} (h0 : l0 ≤ 32) (hn : n ≤ 2) (hk : k < n) : cs_tot l0 l1 k ≤ 32 := by
  rcases (by omega : k = 0 ∨ k = 1) with rfl | rfl
  · exact Nat.zero_le _
  · exact h0
theorem cs_lenS {l0 l1 : Nat} (h0 : l0 ≤ 32) (h1 : l1 ≤ 32) : ∀ k, cs_len l0 l1 k ≤ 32
  | 0 => h0
  | _ + 1 => h1
theorem cs_totM {l0 l1 : Nat} (h0 : l0 ≤ 32) (h1 : l1 ≤ 32) : ∀ k, cs_tot l0 l1 k ≤ 64
  | 0 => by show 0 ≤ 64; omega
  | 1 => by show l0 ≤ 64; omega
  | _ + 2 => by show l0 + l1 ≤ 64; omega
theorem cs_start {r : Int64} {n l0 l1 k : Nat} (h : cs_R r n l0 l1) (hk : k < n) : cs_ext (cs_tot l0 l1 k) (cs_len l0 l1 k) &&& 127 = nI (cs_tot l0 l1 k) := by
  obtain ⟨hn, h0, h1, _, _⟩ := h
  have a := cs_totS (l1 := l1) h0 hn hk
  have b := cs_lenS h0 h1 k
  exact cs_eS _ (by omega) _ (by omega)
theorem cs_length {r : Int64} {n l0 l1 k : Nat} (h : cs_R r n l0 l1) (hk : k < n) : ((cs_ext (cs_tot l0 l1 k) (cs_len l0 l1 k)).toUInt32 >>> ((7 : Int32).toUInt32 &&& Int32.toUInt32 31)).toInt32 = nI (cs_len l0 l1 k) := by
  obtain ⟨hn, h0, h1, _, _⟩ := h
  have a := cs_totS (l1 := l1) h0 hn hk
  have b := cs_lenS h0 h1 k
  exact cs_eL _ (by omega) _ (by omega)
/-- the catalog's leaf: three records, the file's is r -/
def cs_A (r : Int64) (a1 a3 a4 a5 : Nat → Int32) (a6 : Nat → Int64) (a8 : Nat → Int32) : Prop :=
  a1 0 = 0 ∧ a3 0 = 1 ∧ a4 0 = nI 3 ∧ a8 0 = -1 ∧ a5 0 = 512 ∧ a5 1 = 522 ∧ a5 2 = 1024 ∧ a6 1 = r ∧ a6 2 = 2306
theorem cs_A_put {r r' : Int64} {a1 a3 a4 a5 : Nat → Int32} {a6 : Nat → Int64} {a8 : Nat → Int32} (h : cs_A r a1 a3 a4 a5 a6 a8) : cs_A r' a1 a3 a4 a5 (vp_updL a6 1 r') a8 := by
  obtain ⟨h1, h3, h4, h8, k0, k1, k2, _, v2⟩ := h
  exact ⟨h1, h3, h4, h8, k0, k1, k2, pk_uLs, by rw [pk_uLn (by omega)]; exact v2⟩
theorem cs_p3 {f : Nat → Int32} {k : Int32} (k0 : f 0 = 512) (k1 : f 1 = 522) (k2 : f 2 = 1024) :
    cs_pos f k 3 = (if (1024 : Int32) < k then 3 else if (522 : Int32) < k then 2 else if (512 : Int32) < k then 1 else 0) := by
  show (if f 2 < k then 3 else if f 1 < k then 2 else if f 0 < k then 1 else 0) = _
  rw [k0, k1, k2]
/-- the blocks below N are used, the others free -/
def cs_B (N : Nat) (b : Nat → Int32) : Prop := ∀ i, i < 96 → b i = if i < N then 1 else 0
end
section
theorem cs_key {post : Int32 → Prop} (H : post 522) : wpX_keyOfThread post () 2306 := by
  have e : ((512 * (((((2306 : Int64).toUInt64 >>> ((1 : Int32).toInt64.toUInt64 &&& Int64.toUInt64 63)).toInt64).toInt32) &&& 63)) + (((((2306 : Int64).toUInt64 >>> ((8 : Int32).toInt64.toUInt64 &&& Int64.toUInt64 63)).toInt64).toInt32) &&& 255)) + 1 = (522 : Int32) := by decide +kernel
  exact ek_v (P := post) e H
theorem cs_rx {post : Int32 → Prop} {r : Int64} {n : Nat} (h : cs_cnt r = nI n) (H : post (nI n)) : wpX_recordExtents post () r := ek_v (P := post) h H
theorem cs_eStart {post : Int32 → Prop} {e : Int32} {s : Nat} (h : e &&& 127 = nI s) (H : post (nI s)) : wpX_extentStart post () e := ek_v (P := post) h H
theorem cs_eLength {post : Int32 → Prop} {e : Int32} {l : Nat} (h : (e.toUInt32 >>> ((7 : Int32).toUInt32 &&& Int32.toUInt32 31)).toInt32 = nI l) (H : post (nI l)) : wpX_extentLength post () e := ek_v (P := post) h H
section
variable {r : Int64} {d pl pa sk g pr fb : Int32} {a1 a2 a3 a4 a5 : Nat → Int32} {a6 : Nat → Int64} {a7 a8 a9 a10 a11 : Nat → Int32}
theorem cs_eo {post : Int32 → St2 → Prop} {k x : Int32} (hk : ¬ 3 ≤ k) (h : cs_inl r k = x) (H : post x (d, pl, pa, sk, g, pr, fb, a1, a2, a3, a4, a5, a6, a7, a8, a9, a10, a11)) : wpX_extentOf post (d, pl, pa, sk, g, pr, fb, a1, a2, a3, a4, a5, a6, a7, a8, a9, a10, a11) r k :=
  br_f hk (ek_v (P := fun y => post y (d, pl, pa, sk, g, pr, fb, a1, a2, a3, a4, a5, a6, a7, a8, a9, a10, a11)) h H)
theorem cs_thread {post : Int64 → St2 → Prop} (hA : cs_A r a1 a3 a4 a5 a6 a8) (H : post 2306 (0, 0, nI 2, sk, g, pr, fb, a1, a2, a3, a4, a5, a6, a7, a8, a9, a10, a11)) : wpX_threadOf post (d, pl, pa, sk, g, pr, fb, a1, a2, a3, a4, a5, a6, a7, a8, a9, a10, a11) 2 := by
  obtain ⟨h1, h3, h4, h8, k0, k1, k2, v1, v2⟩ := hA
  exact br_f (by decide) (br_t (by decide) (cs_tk (k := 1024) (by decide) (cs_loc_t (n := 3) (p := 2) h1 h3 h4 (by omega) ((cs_p3 k0 k1 k2).trans (by decide)) (by omega) k2 (br_f (by decide) (And.intro (pk_in 2 400 (by omega) (cs_z5 2))
    (ek_v (P := fun x => post x (0, 0, nI 2, sk, g, pr, fb, a1, a2, a3, a4, a5, a6, a7, a8, a9, a10, a11)) (by rw [cs_c5 (by omega)]; exact v2) H))))))
theorem cs_refuse {post : Int32 → St2 → Prop} (hA : cs_A r a1 a3 a4 a5 a6 a8) (H : post 0 (0, 0, nI 2, sk, g, pr, fb, a1, a2, a3, a4, a5, a6, a7, a8, a9, a10, a11)) : wpX_refuseFile post (d, pl, pa, sk, g, pr, fb, a1, a2, a3, a4, a5, a6, a7, a8, a9, a10, a11) 2 := by
  unfold wpX_refuseFile
  exact cs_thread hA (br_t (by decide) (br_t (by decide) (br_t rfl H)))
theorem cs_record {post : Int64 → St2 → Prop} (hA : cs_A r a1 a3 a4 a5 a6 a8) (H : post r (0, 0, nI 1, sk, g, pr, fb, a1, a2, a3, a4, a5, a6, a7, a8, a9, a10, a11)) : wpX_recordOf post (d, pl, pa, sk, g, pr, fb, a1, a2, a3, a4, a5, a6, a7, a8, a9, a10, a11) 2306 := by
  obtain ⟨h1, h3, h4, h8, k0, k1, k2, v1, v2⟩ := hA
  unfold wpX_recordOf
  exact cs_key (cs_loc_t (n := 3) (p := 1) h1 h3 h4 (by omega) ((cs_p3 k0 k1 k2).trans (by decide)) (by omega) k1 (br_f (by decide) (And.intro (pk_in 1 400 (by omega) (cs_z5 1))
    (ek_v (P := fun x => post x (0, 0, nI 1, sk, g, pr, fb, a1, a2, a3, a4, a5, a6, a7, a8, a9, a10, a11)) (by rw [cs_c5 (by omega)]; exact v1) H))))
theorem cs_putr {post : St2 → Prop} {v : Int64} (hA : cs_A r a1 a3 a4 a5 a6 a8) (H : post (0, pl, pa, sk, g, pr, fb, a1, a2, a3, a4, a5, vp_updL a6 1 v, a7, a8, a9, a10, a11)) : wpX_putRecord post (d, pl, pa, sk, g, pr, fb, a1, a2, a3, a4, a5, a6, a7, a8, a9, a10, a11) 0 522 v := by
  obtain ⟨h1, h3, h4, h8, k0, k1, k2, v1, v2⟩ := hA
  exact cs_put_old (n := 3) (p := 1) h1 h3 h4 (by omega) ((cs_p3 k0 k1 k2).trans (by decide)) (by omega) k1 H
theorem cs_fit {post : Int32 → Prop} {N l : Nat} (hB : cs_B N a11) (h1 : 1 ≤ l) (hN : N + l ≤ 96) (H : post (nI N)) : wpX_firstFit post (d, pl, pa, sk, g, pr, fb, a1, a2, a3, a4, a5, a6, a7, a8, a9, a10, a11) (nI l) := by
  obtain ⟨e, he⟩ : ∃ e, e + 1 = N + l := ⟨N + l - 1, by omega⟩
  have hw : ∃ m, wX_firstFit_4 post (nI l) d pl pa sk g pr fb a1 a2 a3 a4 a5 a6 a7 a8 a9 a10 a11 m (nI (0 - N)) (nI 0) := by
    refine loop_0 (σ := Unit) (fun m i _ => wX_firstFit_4 post (nI l) d pl pa sk g pr fb a1 a2 a3 a4 a5 a6 a7 a8 a9 a10 a11 m (nI (i - N)) (nI i)) (fun _ _ => True) e () trivial ?_ ?_
    · intro m s _
      have b : a11 e = 0 := by rw [hB e (by omega), if_neg (by omega)]
      have e1 : nI e + 1 = nI N + nI l := by rw [nI_1, he, nI_add]
      refine br_f (nI_ge (b := 96) (by omega) (by decide)) (And.intro (pk_in e 96 (by omega)) (br_t (by rw [nI_clamp (by omega)]; exact b) (br_t ?_ ?_)))
      · rw [nI_1, show e - N + 1 = l by omega]
      · exact ek_v (P := post) (by grind) H
    · intro m i s hi _ hw
      have t : wX_firstFit_4 post (nI l) d pl pa sk g pr fb a1 a2 a3 a4 a5 a6 a7 a8 a9 a10 a11 m (nI (i + 1 - N)) (nI (i + 1)) := hw () trivial
      refine br_f (nI_ge (b := 96) (by omega) (by decide)) (And.intro (pk_in i 96 (by omega)) ?_)
      by_cases c : i < N
      · have b : a11 i = 1 := by rw [hB i (by omega), if_pos c]
        rw [show i + 1 - N = 0 by omega] at t
        exact br_f (by rw [nI_clamp (by omega), b]; decide) (br_f (fun z => nI_ne0 (by omega) (by omega) z.symm) (nm_r (nI_1 i) t))
      · have b : a11 i = 0 := by rw [hB i (by omega), if_neg c]
        rw [show i + 1 - N = i - N + 1 by omega, ← nI_1 (i - N)] at t
        exact br_t (by rw [nI_clamp (by omega)]; exact b) (br_f (by rw [nI_1, nI_eq (by omega) (by omega)]; omega) (nm_r (nI_1 i) t))
  rw [Nat.zero_sub] at hw
  exact hw
theorem cs_mark_w {post : St2 → Prop} {x2 : Int32} {s l : Nat} (h : s + l ≤ 96)
    (H : ∀ b : Nat → Int32, (∀ j, b j = if s ≤ j ∧ j < s + l then vp_nar .boolean x2 else a11 j) → (x2 = 0 → post (d, pl, pa, sk, g, pr, fb + nI l, a1, a2, a3, a4, a5, a6, a7, a8, a9, a10, b)) ∧ (¬ x2 = 0 → post (d, pl, pa, sk, g, pr, fb + (-(nI l)), a1, a2, a3, a4, a5, a6, a7, a8, a9, a10, b))) :
    ∃ m, wX_mark_14 post x2 (nI s) (nI l) d pl pa sk g pr fb m (nI s) a1 a2 a3 a4 a5 a6 a7 a8 a9 a10 a11 :=
  pk_loop (fun m i b => wX_mark_14 post x2 (nI s) (nI l) d pl pa sk g pr fb m (nI i) a1 a2 a3 a4 a5 a6 a7 a8 a9 a10 b) (fun i b => s ≤ i ∧ ∀ j, b j = if s ≤ j ∧ j < i then vp_nar .boolean x2 else a11 j) (s + l) s a11 (by omega)
    ⟨Nat.le_refl s, fun j => by rw [if_neg (by omega)]⟩
    (fun m b hb => pk_le (s + l) (s + l) (fun _ => And.intro (fun z => nm_e ((H b hb.2).1 z)) (fun z => nm_e ((H b hb.2).2 z))) (fun z => absurd z (by omega)) (nI_add s l))
    (fun m i b hi hb hw => pk_le (s + l) i (fun z => absurd z (by omega)) (fun _ => And.intro (pk_in i 96 (by omega)) (nm_e (nm_r (nI_1 i) (hw _ ⟨by omega, fun j => by
      rw [nI_clamp (by omega)]
      by_cases e : j = i
      · rw [e, pk_us, if_pos (by omega)]
      · rw [pk_un e, hb.2 j]
        by_cases c : s ≤ j ∧ j < i
        · rw [if_pos c, if_pos (by omega)]
        · rw [if_neg c, if_neg (by omega)]⟩)))) (nI_add s l))
theorem cs_mark1 {post : St2 → Prop} {e : Int32} {N l : Nat} (hs : e &&& 127 = nI N) (hl : (e.toUInt32 >>> ((7 : Int32).toUInt32 &&& Int32.toUInt32 31)).toInt32 = nI l) (h : N + l ≤ 96) (hB : cs_B N a11)
    (H : ∀ b, cs_B (N + l) b → post (d, pl, pa, sk, g, pr, fb + (-(nI l)), a1, a2, a3, a4, a5, a6, a7, a8, a9, a10, b)) : wpX_mark post (d, pl, pa, sk, g, pr, fb, a1, a2, a3, a4, a5, a6, a7, a8, a9, a10, a11) e 1 := by
  unfold wpX_mark
  exact cs_eStart hs (cs_eLength hl (cs_mark_w h (fun b hb => br_f (by decide) (H b (fun i hi => by
    rw [hb i, hB i hi]
    have z : vp_nar .boolean 1 = 1 := by decide
    by_cases c : N ≤ i ∧ i < N + l
    · rw [if_pos c, if_pos (by omega), z]
    · rw [if_neg c]
      by_cases c2 : i < N
      · rw [if_pos c2, if_pos (by omega)]
      · rw [if_neg c2, if_neg (by omega)])))))
theorem cs_mark0 {post : St2 → Prop} {e : Int32} {s l : Nat} (hs : e &&& 127 = nI s) (hl : (e.toUInt32 >>> ((7 : Int32).toUInt32 &&& Int32.toUInt32 31)).toInt32 = nI l) (h : s + l ≤ 96) (hB : cs_B (s + l) a11)
    (H : ∀ b, cs_B s b → post (d, pl, pa, sk, g, pr, fb + nI l, a1, a2, a3, a4, a5, a6, a7, a8, a9, a10, b)) : wpX_mark post (d, pl, pa, sk, g, pr, fb, a1, a2, a3, a4, a5, a6, a7, a8, a9, a10, a11) e 0 := by
  unfold wpX_mark
  exact cs_eStart hs (cs_eLength hl (cs_mark_w h (fun b hb => br_t rfl (H b (fun i hi => by
    rw [hb i, hB i hi]
    have z : vp_nar .boolean 0 = 0 := by decide
    by_cases c : s ≤ i ∧ i < s + l
    · rw [if_pos c, if_neg (by omega), z]
    · rw [if_neg c]
      by_cases c2 : i < s
      · rw [if_pos c2, if_pos (by omega)]
      · rw [if_neg c2, if_neg (by omega)])))))
end
end
section
theorem cs_totn {l0 l1 n k : Nat} (hn : n ≤ 2) (hk : k < n) : cs_tot l0 l1 k + cs_len l0 l1 k ≤ cs_tot l0 l1 n := by
  rcases (by omega : (k = 0 ∧ n = 1) ∨ (k = 0 ∧ n = 2) ∨ (k = 1 ∧ n = 2)) with ⟨rfl, rfl⟩ | ⟨rfl, rfl⟩ | ⟨rfl, rfl⟩
  · show 0 + l0 ≤ l0
    omega
  · show 0 + l0 ≤ l0 + l1
    omega
  · show l0 + l1 ≤ l0 + l1
    omega
section
variable {r : Int64} {d pl pa sk g pr fb : Int32} {a1 a2 a3 a4 a5 : Nat → Int32} {a6 : Nat → Int64} {a7 a8 a9 a10 a11 : Nat → Int32}
theorem cs_ext_bad {post : Int32 → St2 → Prop} {x : Int32} (hA : cs_A r a1 a3 a4 a5 a6 a8) (hx : x < 1 ∨ 32 < x) (H : post (-10) (0, 0, nI 2, sk, g, pr, fb, a1, a2, a3, a4, a5, a6, a7, a8, a9, a10, a11)) : wpX_extend post (d, pl, pa, sk, g, pr, fb, a1, a2, a3, a4, a5, a6, a7, a8, a9, a10, a11) 2 x := by
  unfold wpX_extend
  refine cs_refuse hA (br_t rfl ?_)
  by_cases c : x < 1
  · exact br_t c H
  · exact br_f c (br_f (fun z => hx.elim c (fun y => absurd z (Int32.not_le.mpr y))) H)
theorem cs_ext_ok {post : Int32 → St2 → Prop} {n N l : Nat} (hA : cs_A r a1 a3 a4 a5 a6 a8) (hc : cs_cnt r = nI n) (hn : n < 3) (hB : cs_B N a11) (hN : N ≤ 32) (hl1 : 1 ≤ l) (hl : l ≤ 32)
    (H : ∀ b, cs_B (N + l) b → post (nI N) (0, 0, nI 1, sk, g, pr, fb + (-(nI l)), a1, a2, a3, a4, a5, vp_updL a6 1 (cs_grow r (cs_ext N l) (nI n)), a7, a8, a9, a10, b)) : wpX_extend post (d, pl, pa, sk, g, pr, fb, a1, a2, a3, a4, a5, a6, a7, a8, a9, a10, a11) 2 (nI l) := by
  unfold wpX_extend
  refine cs_refuse hA (br_t rfl (br_f (nI_nlt (b := 1) hl1 (by omega)) (br_t (nI_le (b := 32) hl (by decide)) (cs_thread hA (cs_record hA (cs_rx hc (br_t (nI_lt (b := 6) (by omega) (by decide)) (cs_fit hB hl1 (by omega) (br_t (nI_pos' (by omega)) (nm_r (e' := cs_ext N l) rfl ?_))))))))))
  exact cs_mark1 (cs_eS N (by omega) l (by omega)) (cs_eL N (by omega) l (by omega)) (by omega) hB (fun b hb => nm_e (br_f (nI_ge (b := 3) hn (by decide)) (nm_e (by unfold wX_extend_138; exact cs_key (cs_putr hA (H b hb))))))
theorem cs_blk {post : Int32 → St2 → Prop} {n l0 l1 : Nat} (hA : cs_A r a1 a3 a4 a5 a6 a8) (hR : cs_R r n l0 l1) (H : post (nI (cs_tot l0 l1 n)) (0, 0, nI 1, sk, g, pr, fb, a1, a2, a3, a4, a5, a6, a7, a8, a9, a10, a11)) : wpX_blocks post (d, pl, pa, sk, g, pr, fb, a1, a2, a3, a4, a5, a6, a7, a8, a9, a10, a11) 2 := by
  unfold wpX_blocks
  have hn := hR.1
  refine cs_refuse hA (br_t rfl (cs_thread hA (cs_record hA (cs_rx hR.2.2.2.1 ?_))))
  exact loop_0 (σ := Unit) (fun m i _ => wX_blocks_38 post r (nI n) m (nI (cs_tot l0 l1 i)) (nI i) 0 0 (nI 1) sk g pr fb a1 a2 a3 a4 a5 a6 a7 a8 a9 a10 a11) (fun _ _ => True) n () trivial
    (fun m _ _ => pk_le n n (fun _ => H) (fun z => absurd z (by omega)))
    (fun m i _ hi _ hw => pk_le n i (fun z => absurd z (by omega)) (fun _ => cs_eo (nI_ge (b := 3) (by omega) (by decide)) (hR.2.2.2.2 i hi) (cs_eLength (cs_length hR hi) (nm_r (e' := nI (cs_tot l0 l1 (i + 1))) (by rw [nI_add, cs_tot1 _ _ i (by omega)]) (nm_r (nI_1 i) (hw () trivial))))))
theorem cs_at_neg {post : Int32 → St2 → Prop} {x : Int32} (hA : cs_A r a1 a3 a4 a5 a6 a8) (hx : x < 0) (H : post (-12) (0, 0, nI 2, sk, g, pr, fb, a1, a2, a3, a4, a5, a6, a7, a8, a9, a10, a11)) : wpX_blockAt post (d, pl, pa, sk, g, pr, fb, a1, a2, a3, a4, a5, a6, a7, a8, a9, a10, a11) 2 x := by
  unfold wpX_blockAt
  exact cs_refuse hA (br_t rfl (br_f (Int32.not_le.mpr hx) H))
theorem cs_at {post : Int32 → St2 → Prop} {n l0 l1 j : Nat} (hj : j < 2 ^ 31) (hA : cs_A r a1 a3 a4 a5 a6 a8) (hR : cs_R r n l0 l1)
    (H1 : j < cs_tot l0 l1 n → post (nI j) (0, 0, nI 1, sk, g, pr, fb, a1, a2, a3, a4, a5, a6, a7, a8, a9, a10, a11)) (H2 : cs_tot l0 l1 n ≤ j → post (-12) (0, 0, nI 1, sk, g, pr, fb, a1, a2, a3, a4, a5, a6, a7, a8, a9, a10, a11)) : wpX_blockAt post (d, pl, pa, sk, g, pr, fb, a1, a2, a3, a4, a5, a6, a7, a8, a9, a10, a11) 2 (nI j) := by
  unfold wpX_blockAt
  have hn := hR.1
  refine cs_refuse hA (br_t rfl (br_t (nI_pos' hj) (cs_thread hA (cs_record hA (cs_rx hR.2.2.2.1 ?_)))))
  have hw : ∃ m, wX_blockAt_47 post r (nI n) m (nI (j - 0)) (nI 0) 0 0 (nI 1) sk g pr fb a1 a2 a3 a4 a5 a6 a7 a8 a9 a10 a11 := by
    refine loop_0 (σ := Unit) (fun m i _ => wX_blockAt_47 post r (nI n) m (nI (j - cs_tot l0 l1 i)) (nI i) 0 0 (nI 1) sk g pr fb a1 a2 a3 a4 a5 a6 a7 a8 a9 a10 a11) (fun i _ => cs_tot l0 l1 i ≤ j) n () (Nat.zero_le j) (fun m _ h => pk_le n n (fun _ => H2 h) (fun z => absurd z (by omega))) ?_
    intro m i s hi hI hw
    have t1 := cs_tot1 l0 l1 i (by omega)
    have t2 := cs_totn (l0 := l0) (l1 := l1) hn hi
    have t3 := cs_lenS hR.2.1 hR.2.2.1 i
    refine pk_le n i (fun z => absurd z (by omega)) (fun _ => cs_eo (nI_ge (b := 3) (by omega) (by decide)) (hR.2.2.2.2 i hi) (cs_eLength (cs_length hR hi) ?_))
    refine pk_le (cs_len l0 l1 i) (j - cs_tot l0 l1 i) (fun z => ?_) (fun z => ?_)
    · exact nm_r (e' := nI (j - cs_tot l0 l1 (i + 1))) (by rw [pk_sub z, t1, Nat.sub_sub]) (nm_r (nI_1 i) (hw () (by omega)))
    · exact cs_eStart (cs_start hR hi) (ek_v (P := fun x => post x (0, 0, nI 1, sk, g, pr, fb, a1, a2, a3, a4, a5, a6, a7, a8, a9, a10, a11)) (b := nI j) (by rw [nI_add, show cs_tot l0 l1 i + (j - cs_tot l0 l1 i) = j by omega]) (H1 (by omega)))
  exact hw
theorem cs_shr0 {post : Int32 → St2 → Prop} (hA : cs_A r a1 a3 a4 a5 a6 a8) (hc : cs_cnt r = nI 0) (H : post (-12) (0, 0, nI 1, sk, g, pr, fb, a1, a2, a3, a4, a5, a6, a7, a8, a9, a10, a11)) : wpX_shrink post (d, pl, pa, sk, g, pr, fb, a1, a2, a3, a4, a5, a6, a7, a8, a9, a10, a11) 2 := by
  unfold wpX_shrink
  exact cs_refuse hA (br_t rfl (cs_thread hA (cs_record hA (cs_rx hc (br_t rfl H)))))
theorem cs_shr {post : Int32 → St2 → Prop} {n l0 l1 : Nat} (hA : cs_A r a1 a3 a4 a5 a6 a8) (hR : cs_R r (n + 1) l0 l1) (hB : cs_B (cs_tot l0 l1 (n + 1)) a11)
    (H : ∀ b, cs_B (cs_tot l0 l1 n) b → post (nI (cs_len l0 l1 n)) (0, 0, nI 1, sk, g, pr, fb + nI (cs_len l0 l1 n), a1, a2, a3, a4, a5, vp_updL a6 1 (cs_less r (nI (n + 1))), a7, a8, a9, a10, b)) : wpX_shrink post (d, pl, pa, sk, g, pr, fb, a1, a2, a3, a4, a5, a6, a7, a8, a9, a10, a11) 2 := by
  unfold wpX_shrink
  have hn := hR.1
  have hi : n < n + 1 := by omega
  have t1 := cs_tot1 l0 l1 n (by omega)
  have t2 := cs_totM hR.2.1 hR.2.2.1 (n + 1)
  rw [t1] at hB
  refine cs_refuse hA (br_t rfl (cs_thread hA (cs_record hA (cs_rx hR.2.2.2.1 (br_f (nI_ne0 (by omega) (by omega)) (cs_eo (x := cs_ext (cs_tot l0 l1 n) (cs_len l0 l1 n)) (by rw [nI_pred]; exact nI_ge (b := 3) (by omega) (by decide)) (by rw [nI_pred]; exact hR.2.2.2.2 n hi) ?_))))))
  exact cs_mark0 (cs_start hR hi) (cs_length hR hi) (by omega) hB (fun b hb => nm_e (br_f (nI_nlt (a := 3) (by omega) (by decide)) (nm_e (by unfold wX_shrink_113; exact cs_key (cs_putr hA (cs_eLength (cs_length hR hi) (H b hb)))))))
theorem cs_child {post : Int32 → St2 → Prop} (hA : cs_A r a1 a3 a4 a5 a6 a8) (H : post (-1) (0, -1, 0, sk, g, pr, fb, a1, a2, a3, a4, a5, a6, a7, a8, a9, a10, a11)) : wpX_firstChild post (d, pl, pa, sk, g, pr, fb, a1, a2, a3, a4, a5, a6, a7, a8, a9, a10, a11) 2 := by
  obtain ⟨h1, h3, h4, h8, k0, k1, k2, v1, v2⟩ := hA
  unfold wpX_firstChild
  exact cs_tk (k := 1024) (by decide) (cs_seek_out (n := 3) h1 h3 h4 h8 (by omega) ((cs_p3 k0 k1 k2).trans (by decide)) (br_t (by decide) H))
theorem cs_erase_x {post : St2 → Prop} {m : Nat} (hA : cs_A r a1 a3 a4 a5 a6 a8)
    (H : ∀ (d pl pa sk g pr : Int32) (a1 a2 a3 a4 a5 : Nat → Int32) (a6 : Nat → Int64) (a7 a8 a9 a10 a11 : Nat → Int32), post (d, pl, pa, sk, g, pr, fb, a1, a2, a3, a4, a5, a6, a7, a8, a9, a10, a11)) : wX_erase_20 post 2 2306 r (m + 1) (nI 0 - 1) d pl pa sk g pr fb a1 a2 a3 a4 a5 a6 a7 a8 a9 a10 a11 := by
  obtain ⟨h1, h3, h4, h8, k0, k1, k2, v1, v2⟩ := hA
  refine br_t (by decide) (cs_key (cs_drop_one (n := 1) h1 h3 h4 (by omega) ((cs_p3 k0 k1 k2).trans (by decide)) k1 ?_))
  refine cs_tk (k := 1024) (by decide) (cs_drop_last (n := 1) h1 h3 pk_us (by omega) ?_ (by rw [pk_us, k2]) (nm_e (H _ _ _ _ _ _ _ _ _ _ _ _ _ _ _ _ _)))
  show (if upd a5 1 (a5 (1 + 1)) 1 < 1024 then 2 else if upd a5 1 (a5 (1 + 1)) 0 < 1024 then 1 else 0) = 1
  rw [pk_us, pk_un (by omega), k0, k2]
  decide
theorem cs_erase {post : St2 → Prop} {n l0 l1 : Nat} (hA : cs_A r a1 a3 a4 a5 a6 a8) (hR : cs_R r n l0 l1) (hB : cs_B (cs_tot l0 l1 n) a11) (hf : fb = nI (96 - cs_tot l0 l1 n))
    (H : ∀ (d pl pa sk g pr : Int32) (a1 a2 a3 a4 a5 : Nat → Int32) (a6 : Nat → Int64) (a7 a8 a9 a10 a11 : Nat → Int32), post (d, pl, pa, sk, g, pr, nI 96, a1, a2, a3, a4, a5, a6, a7, a8, a9, a10, a11)) : wpX_erase post (d, pl, pa, sk, g, pr, fb, a1, a2, a3, a4, a5, a6, a7, a8, a9, a10, a11) 2 2306 := by
  unfold wpX_erase
  have hn := hR.1
  refine cs_record hA (cs_rx hR.2.2.2.1 (nm_e ⟨n + 1, ?_⟩))
  refine pk_loopD (fun m i (s : Int32 × (Nat → Int32)) => wX_erase_20 post 2 2306 r m (nI i - 1) 0 0 (nI 1) sk g pr s.1 a1 a2 a3 a4 a5 a6 a7 a8 a9 a10 s.2) (fun i s => i ≤ n ∧ cs_B (cs_tot l0 l1 i) s.2 ∧ s.1 = nI (96 - cs_tot l0 l1 i)) ?_ ?_ n (fb, a11) ⟨Nat.le_refl n, hB, hf⟩
  · intro m s hs
    obtain ⟨f, b⟩ := s
    obtain ⟨_, _, rfl⟩ := hs
    exact cs_erase_x hA H
  · intro m i s hs hw
    obtain ⟨f, b⟩ := s
    obtain ⟨hi, hb, hf'⟩ := hs
    have hb' : cs_B (cs_tot l0 l1 (i + 1)) b := hb
    have hf2 : f = nI (96 - cs_tot l0 l1 (i + 1)) := hf'
    have t1 := cs_tot1 l0 l1 i (by omega)
    have t2 := cs_totM hR.2.1 hR.2.2.1 (i + 1)
    have hi' : i < n := hi
    rw [t1] at hb'
    show wX_erase_20 post 2 2306 r (m + 1) (nI (i + 1) - 1) 0 0 (nI 1) sk g pr f a1 a2 a3 a4 a5 a6 a7 a8 a9 a10 b
    rw [nI_pred]
    refine br_f (nI_pos (by omega)) (cs_eo (nI_ge (b := 3) (by omega) (by decide)) (hR.2.2.2.2 i hi') ?_)
    refine cs_mark0 (cs_start hR hi') (cs_length hR hi') (by omega) hb' (fun b' hb2 => br_t (nI_lt (b := 3) (by omega) (by decide)) (nm_r (e' := nI i - 1) (Int32.sub_eq_add_neg _ _).symm (hw (_, b') ⟨by omega, hb2, ?_⟩)))
    show f + nI (cs_len l0 l1 i) = nI (96 - cs_tot l0 l1 i)
    rw [hf2, nI_add, show 96 - cs_tot l0 l1 (i + 1) + cs_len l0 l1 i = 96 - cs_tot l0 l1 i by omega]
theorem cs_rem {post : Int32 → St2 → Prop} {n l0 l1 : Nat} (hA : cs_A r a1 a3 a4 a5 a6 a8) (hR : cs_R r n l0 l1) (hB : cs_B (cs_tot l0 l1 n) a11) (hf : fb = nI (96 - cs_tot l0 l1 n))
    (H : ∀ (d pl pa sk g pr : Int32) (a1 a2 a3 a4 a5 : Nat → Int32) (a6 : Nat → Int64) (a7 a8 a9 a10 a11 : Nat → Int32), post 0 (d, pl, pa, sk, g, pr, nI 96, a1, a2, a3, a4, a5, a6, a7, a8, a9, a10, a11)) : wpX_remove post (d, pl, pa, sk, g, pr, fb, a1, a2, a3, a4, a5, a6, a7, a8, a9, a10, a11) 2 := by
  unfold wpX_remove
  exact cs_thread hA (br_t (by decide) (br_f (by decide) (cs_child hA (br_t (by decide) (cs_erase hA hR hB hf H)))))
end
end
section
theorem cs_c1 : (1 : Int32).toNatClampNeg = 1 := by decide
section
variable {d pl pa sk g pr fb : Int32} {a1 a2 a3 a4 a5 : Nat → Int32} {a6 : Nat → Int64} {a7 a8 a9 a10 a11 : Nat → Int32}
theorem cs_take0 {post : Int32 → St2 → Prop} {x : Int32} (h : a2 0 = 0)
    (H : post 0 (d, pl, pa, sk, g, pr, fb, a1, upd a2 0 1, upd a3 0 (vp_nar .boolean x), upd a4 0 0, a5, a6, a7, upd a8 0 (-1), a9, a10, a11)) : wpX_takeNode post (d, pl, pa, sk, g, pr, fb, a1, a2, a3, a4, a5, a6, a7, a8, a9, a10, a11) x :=
  Exists.intro 1 (br_f (by decide) (And.intro (pk_in 0 80 (by omega)) (br_t (by rw [cs_c0]; exact h)
    (And.intro (pk_in 0 80 (by omega)) (nm_r (e' := upd a2 0 1) (by rw [cs_c0]) (And.intro (pk_in 0 80 (by omega)) (nm_r (e' := upd a3 0 (vp_nar .boolean x)) (by rw [cs_c0])
    (And.intro (pk_in 0 80 (by omega)) (nm_r (e' := upd a4 0 0) (by rw [cs_c0]) (And.intro (pk_in 0 80 (by omega)) (nm_r (e' := upd a8 0 (-1)) (by rw [cs_c0]) H)))))))))))
theorem cs_take1 {post : Int32 → St2 → Prop} {x : Int32} (h0 : ¬ a2 0 = 0) (h : a2 1 = 0)
    (H : post 1 (d, pl, pa, sk, g, pr, fb, a1, upd a2 1 1, upd a3 1 (vp_nar .boolean x), upd a4 1 0, a5, a6, a7, upd a8 1 (-1), a9, a10, a11)) : wpX_takeNode post (d, pl, pa, sk, g, pr, fb, a1, a2, a3, a4, a5, a6, a7, a8, a9, a10, a11) x :=
  Exists.intro 2 (br_f (by decide) (And.intro (pk_in 0 80 (by omega)) (br_f (by rw [cs_c0]; exact h0) (nm_r (e' := 1) (by decide)
    (br_f (by decide) (And.intro (pk_in 1 80 (by omega)) (br_t (by rw [cs_c1]; exact h)
    (And.intro (pk_in 1 80 (by omega)) (nm_r (e' := upd a2 1 1) (by rw [cs_c1]) (And.intro (pk_in 1 80 (by omega)) (nm_r (e' := upd a3 1 (vp_nar .boolean x)) (by rw [cs_c1])
    (And.intro (pk_in 1 80 (by omega)) (nm_r (e' := upd a4 1 0) (by rw [cs_c1]) (And.intro (pk_in 1 80 (by omega)) (nm_r (e' := upd a8 1 (-1)) (by rw [cs_c1]) H)))))))))))))))
end
theorem cs_init {post : St2 → Prop} {mc ms : Nat} (hm : 11 ≤ mc) (hs : 1714 ≤ ms)
    (H : ∀ (d pl pa sk : Int32) (a1 a2 a3 a4 a5 : Nat → Int32) (a6 : Nat → Int64) (a7 a8 a9 a10 a11 : Nat → Int32), a1 0 = 0 → a3 0 = 1 → a4 0 = nI 1 → a8 0 = -1 → a5 0 = 512 → a6 0 = 1 → cs_B 0 a11 → post (d, pl, pa, sk, 0, 0, nI 96, a1, a2, a3, a4, a5, a6, a7, a8, a9, a10, a11)) :
    wpX_init post mc ms (0, 0, 0, 0, 0, 0, 0) := by
  refine And.intro (by omega) (And.intro (by omega) (And.intro (by omega) (And.intro (by omega) (And.intro (by omega) (And.intro (by omega) (And.intro (by omega) (And.intro (by omega) (And.intro (by omega) (And.intro (by omega) (And.intro (by omega) (And.intro (by omega) (And.intro (by omega) (And.intro (by omega) (And.intro (by omega) (And.intro (by omega) (And.intro (by omega) (And.intro (by omega) (And.intro (by omega) (And.intro (by omega) (And.intro (by omega) (And.intro (by omega) ?_)))))))))))))))))))))
  refine cs_take0 rfl (nm_e (cs_take1 (by decide) (by decide) (nm_e ?_)))
  refine cs_tk (k := 512) (by decide) (cs_put_new (n := 0) (by decide) (by decide) (by decide) (by omega) rfl ?_)
  exact H _ _ _ _ _ _ _ _ _ _ _ _ _ _ _ (by decide) (by decide) pk_us (by decide) (by decide) (by decide) (fun i _ => (if_neg (by omega)).symm)
section
variable {d pl pa sk g pr fb : Int32} {a1 a2 a3 a4 a5 : Nat → Int32} {a6 : Nat → Int64} {a7 a8 a9 a10 a11 : Nat → Int32}
theorem cs_folder {post : Int32 → St2 → Prop} (h1 : a1 0 = 0) (h3 : a3 0 = 1) (h4 : a4 0 = nI 1) (k0 : a5 0 = 512) (v0 : a6 0 = 1)
    (H : post 0 (0, 0, nI 0, sk, g, pr, fb, a1, a2, a3, a4, a5, a6, a7, a8, a9, a10, a11)) : wpX_refuseFolder post (d, pl, pa, sk, g, pr, fb, a1, a2, a3, a4, a5, a6, a7, a8, a9, a10, a11) 1 := by
  have t : ∀ {q : Int64 → St2 → Prop}, q 1 (0, 0, nI 0, sk, g, pr, fb, a1, a2, a3, a4, a5, a6, a7, a8, a9, a10, a11) → wpX_threadOf q (d, pl, pa, sk, g, pr, fb, a1, a2, a3, a4, a5, a6, a7, a8, a9, a10, a11) 1 := by
    intro q hq
    refine br_f (by decide) (br_t (by decide) (cs_tk (k := 512) (by decide) (cs_loc_t (n := 1) (p := 0) h1 h3 h4 (by omega) ?_ (by omega) k0 (br_f (by decide) (And.intro (pk_in 0 400 (by omega) (cs_z5 0))
      (ek_v (P := fun x => q x (0, 0, nI 0, sk, g, pr, fb, a1, a2, a3, a4, a5, a6, a7, a8, a9, a10, a11)) (by rw [cs_c5 (by omega)]; exact v0) hq))))))
    show (if a5 0 < 512 then 1 else 0) = 0
    rw [k0]
    decide
  unfold wpX_refuseFolder
  exact t (br_t (by decide) (br_f (by decide) (br_f (by decide) H)))
theorem cs_make {post : Int32 → St2 → Prop} (h1 : a1 0 = 0) (h3 : a3 0 = 1) (h4 : a4 0 = nI 1) (h8 : a8 0 = -1) (k0 : a5 0 = 512) (v0 : a6 0 = 1)
    (H : ∀ (d pl pa g pr : Int32) (b4 b5 : Nat → Int32) (b6 : Nat → Int64), cs_A 2 a1 a3 b4 b5 b6 a8 → post 2 (d, pl, pa, sk, g, pr, fb, a1, a2, a3, b4, b5, b6, a7, a8, a9, a10, a11)) : wpX_make post (d, pl, pa, sk, 0, 0, fb, a1, a2, a3, a4, a5, a6, a7, a8, a9, a10, a11) 1 9 0 := by
  have p1 : ∀ k : Int32, cs_pos a5 k 1 = if (512 : Int32) < k then 1 else 0 := by
    intro k
    show (if a5 0 < k then 1 else 0) = _
    rw [k0]
  unfold wpX_make
  refine cs_folder h1 h3 h4 k0 v0 (br_t rfl (br_f (by decide) (br_t (by decide) (cs_ik (k := 522) (by decide) (cs_loc_f (n := 1) h1 h3 h4 h8 (by omega) ((p1 _).trans (by decide)) ?_)))))
  refine br_t rfl (br_f (by decide) (br_t (by decide) (nm_r (e' := 1) (by decide) (nm_r (e' := 1) (by decide) (nm_r (e' := 2) (by decide) ?_)))))
  refine cs_ik (k := 522) (by decide) (cs_put_new (n := 1) h1 h3 h4 (by omega) ((p1 _).trans (by decide)) ?_)
  refine cs_tk (k := 1024) (by decide) (br_t rfl ?_)
  unfold wX_packThread_9
  refine cs_put_new (n := 2) h1 h3 pk_us (by omega) ?_ ?_
  · show (if upd a5 1 522 1 < 1024 then 2 else if upd a5 1 522 0 < 1024 then 1 else 0) = 2
    rw [pk_us]
    exact if_pos (by decide)
  · refine H _ _ _ _ _ _ _ _ ⟨h1, h3, pk_us, h8, ?_, ?_, ?_, ?_, ?_⟩
    · rw [pk_un (by omega), pk_un (by omega)]
      exact k0
    · rw [pk_un (by omega), pk_us]
    · rw [pk_us]
    · rw [pk_uLn (by omega), pk_uLs]
      decide +kernel
    · rw [pk_uLs]
      decide +kernel
end
end
section
theorem cs_A_put' {r r' v : Int64} {a1 a3 a4 a5 : Nat → Int32} {a6 : Nat → Int64} {a8 : Nat → Int32} (h : cs_A r a1 a3 a4 a5 a6 a8) (e : v = r') : cs_A r' a1 a3 a4 a5 (vp_updL a6 1 v) a8 := by
  subst e
  exact cs_A_put h
theorem cs_less_f {N l : Nat} (h : N + l ≤ 96) {f : Int32} (hf : f = nI (96 - N)) : f + (-(nI l)) = nI (96 - (N + l)) := by
  rw [hf, ← Int32.sub_eq_add_neg, pk_sub (by omega), Nat.sub_sub]
section
variable {post : Int32 → St0 → Prop} {mc ms kc ks : Nat} {r : Int64} {n l0 l1 : Nat} {d pl pa sk g pr fb : Int32} {a1 a2 a3 a4 a5 : Nat → Int32} {a6 : Nat → Int64} {a7 a8 a9 a10 a11 : Nat → Int32}
theorem cs_194 {x4 x5 x6 z0 z1 : Int32} (hp : post 1 ()) (hA : cs_A r a1 a3 a4 a5 a6 a8) (hR : cs_R r n l0 l1) (hB : cs_B (cs_tot l0 l1 n) a11) (hf : fb = nI (96 - cs_tot l0 l1 n))
    (hz : z1 = z0) (hx : nI (cs_tot l0 l1 n) = x4 + x5 - x6) : wL_lawOf_194 post mc ms x4 x5 x6 z0 z1 kc ks d pl pa sk g pr fb a1 a2 a3 a4 a5 a6 a7 a8 a9 a10 a11 :=
  br_t hz (cs_blk hA hR (br_t hx (cs_rem hA hR hB hf (fun _ _ _ _ _ _ _ _ _ _ _ _ _ _ _ _ _ => br_t rfl (br_t rfl hp)))))
theorem cs_175_0 (hp : post 1 ()) (hA : cs_A 2 a1 a3 a4 a5 a6 a8) (hB : cs_B 0 a11) (hf : fb = nI 96) : wL_lawOf_175 post mc ms (nI 0) (nI 0) (nI 0) kc ks d pl pa sk g pr fb a1 a2 a3 a4 a5 a6 a7 a8 a9 a10 a11 := by
  unfold wL_lawOf_175
  exact cs_shr0 hA cs_cnt0 (br_t (by decide) (cs_194 hp hA cs_R0 hB hf rfl (by decide)))
theorem cs_175_1 {x4 x5 : Int32} {l : Nat} (hp : post 1 ()) (h1 : 1 ≤ l) (hl : l ≤ 32) (hA : cs_A (cs_r1 l) a1 a3 a4 a5 a6 a8) (hB : cs_B l a11) (hf : fb = nI (96 - l)) (hx : x4 + x5 = nI l) :
    wL_lawOf_175 post mc ms x4 x5 (nI l) kc ks d pl pa sk g pr fb a1 a2 a3 a4 a5 a6 a7 a8 a9 a10 a11 := by
  unfold wL_lawOf_175
  refine cs_shr (n := 0) hA (cs_R1 hl) hB (fun b hb => br_f (nI_nle (by omega) (by omega)) ?_)
  refine cs_194 hp (cs_A_put' hA (cs_less1 l (by omega))) cs_R0 hb ?_ rfl ?_
  · show fb + nI l = nI 96
    rw [hf, nI_add, show 96 - l + l = 96 by omega]
  · show nI 0 = x4 + x5 - nI l
    rw [hx, pk_sub (Nat.le_refl l), Nat.sub_self]
theorem cs_175_2 {a b : Nat} (hp : post 1 ()) (ha : a ≤ 32) (h1 : 1 ≤ b) (hb : b ≤ 32) (hA : cs_A (cs_r2 a b) a1 a3 a4 a5 a6 a8) (hB : cs_B (a + b) a11) (hf : fb = nI (96 - (a + b))) :
    wL_lawOf_175 post mc ms (nI a) (nI b) (nI b) kc ks d pl pa sk g pr fb a1 a2 a3 a4 a5 a6 a7 a8 a9 a10 a11 := by
  unfold wL_lawOf_175
  refine cs_shr (n := 1) hA (cs_R2 ha hb) hB (fun c hc => br_f (nI_nle (by omega) (by omega)) ?_)
  refine cs_194 hp (cs_A_put' hA (cs_less2 a (by omega) b (by omega))) (cs_R1 ha) hc ?_ rfl ?_
  · show fb + nI b = nI (96 - a)
    rw [hf, nI_add, show 96 - (a + b) + b = 96 - a by omega]
  · show nI a = nI a + nI b - nI b
    rw [nI_add, pk_sub (by omega), Nat.add_sub_cancel]
theorem cs_158 {a b la : Nat} {z0 z1 : Int32} (hz : z1 = z0) (hb : b ≤ 32) (hla : la = if b = 0 then a else b) (H : wL_lawOf_175 post mc ms (nI a) (nI b) (nI la) kc ks d pl pa sk g pr fb a1 a2 a3 a4 a5 a6 a7 a8 a9 a10 a11) :
    wL_lawOf_158 post mc ms (nI a) (nI b) z0 z1 kc ks d pl pa sk g pr fb a1 a2 a3 a4 a5 a6 a7 a8 a9 a10 a11 := by
  by_cases c : b = 0
  · rw [if_pos c] at hla
    subst hla
    exact br_t hz (pk_le b 0 (fun _ => H) (fun z => absurd z (by omega)))
  · rw [if_neg c] at hla
    subst hla
    exact br_t hz (pk_le la 0 (fun z => absurd z (by omega)) (fun _ => H))
theorem cs_156 {a b la : Nat} (hb : b ≤ 32) (hla : la = if b = 0 then a else b) (H : wL_lawOf_175 post mc ms (nI a) (nI b) (nI la) kc ks d pl pa sk g pr fb a1 a2 a3 a4 a5 a6 a7 a8 a9 a10 a11) :
    wL_lawOf_156 post mc ms (nI a) (nI b) (-12) kc ks d pl pa sk g pr fb a1 a2 a3 a4 a5 a6 a7 a8 a9 a10 a11 := by
  unfold wL_lawOf_156
  exact cs_158 rfl hb hla H
theorem cs_98 {a b la : Nat} {x2 z0 z1 : Int32} (hz : z1 = z0) (hb : b ≤ 32) (hA : cs_A r a1 a3 a4 a5 a6 a8) (hR : cs_R r n l0 l1) (hf : fb = nI (96 - cs_tot l0 l1 n))
    (hab : cs_tot l0 l1 n = a + b) (hla : la = if b = 0 then a else b)
    (H : ∀ d pl pa, wL_lawOf_175 post mc ms (nI a) (nI b) (nI la) kc ks d pl pa sk g pr fb a1 a2 a3 a4 a5 a6 a7 a8 a9 a10 a11) : wL_lawOf_98 post mc ms x2 (nI a) (nI b) z0 z1 kc ks d pl pa sk g pr fb a1 a2 a3 a4 a5 a6 a7 a8 a9 a10 a11 := by
  have t := cs_totM hR.2.1 hR.2.2.1 n
  refine br_t hz (cs_blk hA hR (br_t (by rw [hab, nI_add]) (br_t ?_ ?_)))
  · show fb = nI 96 - nI a - nI b
    rw [hf, hab, pk_sub (by omega), pk_sub (by omega), Nat.sub_sub]
  · by_cases c : x2 < 0
    · exact cs_at_neg hA c (br_t c (cs_156 hb hla (H _ _ _)))
    · obtain ⟨j, hj, rfl⟩ := nI_of c
      refine cs_at hj hA hR (fun z => br_f c (br_f ?_ (cs_158 rfl hb hla (H _ _ _)))) (fun z => br_f c (br_t ?_ (cs_156 hb hla (H _ _ _))))
      · rw [nI_add]
        exact nI_ge (by omega) (by omega)
      · rw [nI_add]
        exact nI_le (by omega) (by omega)
theorem cs_75_bad {x1 x2 x4 z0 z1 : Int32} (hx : x1 < 1 ∨ 32 < x1) (hz : z1 = z0) (hA : cs_A r a1 a3 a4 a5 a6 a8)
    (H : ∀ d pl pa, wL_lawOf_98 post mc ms x2 x4 (nI 0) (-10) (-10) kc ks d pl pa sk g pr fb a1 a2 a3 a4 a5 a6 a7 a8 a9 a10 a11) : wL_lawOf_75 post mc ms x1 x2 x4 (nI 0) z0 z1 kc ks d pl pa sk g pr fb a1 a2 a3 a4 a5 a6 a7 a8 a9 a10 a11 :=
  br_t hz (cs_ext_bad hA hx (br_t (by decide) (H _ _ _)))
theorem cs_75_ok {x2 x4 z0 z1 : Int32} {N b : Nat} (hz : z1 = z0) (hA : cs_A r a1 a3 a4 a5 a6 a8) (hc : cs_cnt r = nI n) (hn : n < 3) (hB : cs_B N a11) (hN : N ≤ 32) (h1 : 1 ≤ b) (hb : b ≤ 32)
    (H : ∀ d pl pa c, cs_B (N + b) c → wL_lawOf_98 post mc ms x2 x4 (nI b) x4 (nI N) kc ks d pl pa sk g pr (fb + (-(nI b))) a1 a2 a3 a4 a5 (vp_updL a6 1 (cs_grow r (cs_ext N b) (nI n))) a7 a8 a9 a10 c) :
    wL_lawOf_75 post mc ms (nI b) x2 x4 (nI b) z0 z1 kc ks d pl pa sk g pr fb a1 a2 a3 a4 a5 a6 a7 a8 a9 a10 a11 :=
  br_t hz (cs_ext_ok hA hc hn hB hN h1 hb (fun c hc => br_f (nI_nle (by omega) (by omega)) (H _ _ _ c hc)))
/-- an argument x of extend, and what the law makes of it -/
def cs_arg (x z : Int32) (b : Nat) : Prop := (b = 0 ∧ z = nI 0 ∧ (x < 1 ∨ 32 < x)) ∨ (1 ≤ b ∧ b ≤ 32 ∧ x = nI b ∧ z = nI b)
theorem cs_s0 {x1 x2 z z0 z1 : Int32} {b : Nat} (hp : post 1 ()) (hz : z1 = z0) (hA : cs_A 2 a1 a3 a4 a5 a6 a8) (hB : cs_B 0 a11) (hf : fb = nI 96) (hb : cs_arg x1 z b) :
    wL_lawOf_75 post mc ms x1 x2 (nI 0) z z0 z1 kc ks d pl pa sk g pr fb a1 a2 a3 a4 a5 a6 a7 a8 a9 a10 a11 := by
  rcases hb with ⟨rfl, rfl, hx⟩ | ⟨h1, h2, rfl, rfl⟩
  · exact cs_75_bad hx hz hA (fun _ _ _ => cs_98 (a := 0) (b := 0) (la := 0) rfl (by omega) hA cs_R0 hf rfl rfl (fun _ _ _ => cs_175_0 hp hA hB hf))
  · refine cs_75_ok hz hA cs_cnt0 (by omega) hB (by omega) h1 h2 (fun _ _ _ c hc => ?_)
    have hA' := cs_A_put' (r' := cs_r1 b) hA (show cs_grow 2 (cs_ext 0 b) (nI 0) = cs_r1 b from rfl)
    have hf' : fb + (-(nI b)) = nI (96 - b) := by
      rw [cs_less_f (N := 0) (by omega) hf, Nat.zero_add]
    rw [Nat.zero_add] at hc
    exact cs_98 (a := 0) (b := b) (la := b) rfl h2 hA' (cs_R1 h2) hf' (Nat.zero_add b).symm (if_neg (by omega)).symm (fun _ _ _ => cs_175_1 hp h1 h2 hA' hc hf' (by rw [nI_add, Nat.zero_add]))
theorem cs_s1 {x1 x2 z z0 z1 : Int32} {a b : Nat} (hp : post 1 ()) (hz : z1 = z0) (h1 : 1 ≤ a) (ha : a ≤ 32) (hA : cs_A (cs_r1 a) a1 a3 a4 a5 a6 a8) (hB : cs_B a a11) (hf : fb = nI (96 - a)) (hb : cs_arg x1 z b) :
    wL_lawOf_75 post mc ms x1 x2 (nI a) z z0 z1 kc ks d pl pa sk g pr fb a1 a2 a3 a4 a5 a6 a7 a8 a9 a10 a11 := by
  rcases hb with ⟨rfl, rfl, hx⟩ | ⟨h1', h2, rfl, rfl⟩
  · exact cs_75_bad hx hz hA (fun _ _ _ => cs_98 (a := a) (b := 0) (la := a) rfl (by omega) hA (cs_R1 ha) hf rfl rfl (fun _ _ _ => cs_175_1 hp h1 ha hA hB hf (by rw [nI_add, Nat.add_zero])))
  · refine cs_75_ok hz hA (cs_cnt1 a (by omega)) (by omega) hB ha h1' h2 (fun _ _ _ c hc => ?_)
    have hA' := cs_A_put' (r' := cs_r2 a b) hA (show cs_grow (cs_r1 a) (cs_ext a b) (nI 1) = cs_r2 a b from rfl)
    have hf' : fb + (-(nI b)) = nI (96 - (a + b)) := cs_less_f (by omega) hf
    exact cs_98 (a := a) (b := b) (la := b) rfl h2 hA' (cs_R2 ha h2) hf' rfl (if_neg (by omega)).symm (fun _ _ _ => cs_175_2 hp ha h1' h2 hA' hc hf')
theorem cs_56 {x0 x1 x2 x4 z : Int32} {a b : Nat} (hp : post 1 ()) (hA : cs_A 2 a1 a3 a4 a5 a6 a8) (hB : cs_B 0 a11) (hf : fb = nI 96) (ha : cs_arg x0 x4 a) (hb : cs_arg x1 z b) :
    wL_lawOf_56 post mc ms x0 x1 x2 x4 z kc ks d pl pa sk g pr fb a1 a2 a3 a4 a5 a6 a7 a8 a9 a10 a11 := by
  unfold wL_lawOf_56
  rcases ha with ⟨rfl, rfl, hx⟩ | ⟨h1, h2, rfl, rfl⟩
  · exact cs_ext_bad hA hx (br_t (by decide) (cs_s0 hp rfl hA hB hf hb))
  · refine cs_ext_ok (n := 0) (N := 0) hA cs_cnt0 (by omega) hB (by omega) h1 h2 (fun c hc => br_f (nI_nle (by omega) (by omega)) ?_)
    rw [Nat.zero_add] at hc
    exact cs_s1 hp rfl h1 h2 (cs_A_put' (r' := cs_r1 a) hA rfl) hc (by rw [cs_less_f (N := 0) (by omega) hf, Nat.zero_add]) hb
theorem cs_55 {x0 x1 x2 x4 : Int32} {a : Nat} (hp : post 1 ()) (hA : cs_A 2 a1 a3 a4 a5 a6 a8) (hB : cs_B 0 a11) (hf : fb = nI 96) (ha : cs_arg x0 x4 a) (hx : x1 < 1 ∨ 32 < x1) :
    wL_lawOf_55 post mc ms x0 x1 x2 x4 kc ks d pl pa sk g pr fb a1 a2 a3 a4 a5 a6 a7 a8 a9 a10 a11 := by
  unfold wL_lawOf_55
  exact cs_56 hp hA hB hf ha (b := 0) (Or.inl ⟨rfl, rfl, hx⟩)
theorem cs_rng {x : Int32} (c : ¬ x < 1) (c2 : ¬ 32 < x) : ∃ b, cs_arg x x b := by
  have c0 : ¬ x < 0 := fun z => c (Int32.lt_trans z (by decide))
  obtain ⟨j, hj, rfl⟩ := nI_of c0
  refine ⟨j, Or.inr ⟨?_, ?_, rfl, rfl⟩⟩
  · rcases Nat.lt_or_ge j 1 with z | z
    · exact absurd (nI_lt (b := 1) z (by decide)) c
    · exact z
  · rcases Nat.lt_or_ge 32 j with z | z
    · exact absurd (nI_lt (a := 32) z hj) c2
    · exact z
theorem cs_38 {x0 x1 x2 x4 : Int32} {a : Nat} (hp : post 1 ()) (hA : cs_A 2 a1 a3 a4 a5 a6 a8) (hB : cs_B 0 a11) (hf : fb = nI 96) (ha : cs_arg x0 x4 a) :
    wL_lawOf_38 post mc ms x0 x1 x2 x4 kc ks d pl pa sk g pr fb a1 a2 a3 a4 a5 a6 a7 a8 a9 a10 a11 :=
  br_c (fun c => cs_55 hp hA hB hf ha (Or.inl c)) (fun c => br_c (fun c2 => cs_55 hp hA hB hf ha (Or.inr c2)) (fun c2 => Exists.elim (cs_rng c c2) (fun b hb => cs_56 hp hA hB hf ha hb)))
theorem cs_37 {x0 x1 x2 : Int32} (hp : post 1 ()) (hA : cs_A 2 a1 a3 a4 a5 a6 a8) (hB : cs_B 0 a11) (hf : fb = nI 96) (hx : x0 < 1 ∨ 32 < x0) :
    wL_lawOf_37 post mc ms x0 x1 x2 kc ks d pl pa sk g pr fb a1 a2 a3 a4 a5 a6 a7 a8 a9 a10 a11 := by
  unfold wL_lawOf_37
  exact cs_38 hp hA hB hf (a := 0) (Or.inl ⟨rfl, rfl, hx⟩)
end
theorem cs_law {post : Int32 → St0 → Prop} {mc ms : Nat} {p0 p1 p2 : Int32} (hp : post 1 ()) (hm : 100 ≤ mc) (hs : 10000 ≤ ms) : wpL_lawOf post mc ms () p0 p1 p2 := by
  refine And.intro (by omega) (And.intro (by omega) ⟨50, 5000, by omega, by omega, cs_init (by omega) (by omega) ?_⟩)
  intro d pl pa sk a1 a2 a3 a4 a5 a6 a7 a8 a9 a10 a11 h1 h3 h4 h8 k0 v0 hB
  refine cs_make h1 h3 h4 h8 k0 v0 (fun _ _ _ _ _ _ _ _ hA => br_t rfl ?_)
  exact br_c (fun c => cs_37 hp hA hB rfl (Or.inl c)) (fun c => br_c (fun c2 => cs_37 hp hA hB rfl (Or.inr c2)) (fun c2 => Exists.elim (cs_rng c c2) (fun a ha => cs_38 hp hA hB rfl ha)))
theorem cs_cell {post : Int32 → Prop} {L : Nat} {xs : Nat → Int32} {i : Nat} (hL : L ≤ 3) (hi : i < 3) (H : ∀ x, post x) : wpL_cellAt post L xs () (nI i) :=
  pk_le L i (fun _ => H 0) (fun z => And.intro (pk_in i L z) (H _))
end
section
theorem i_vc (xs : Nat → Int32) (L : Nat) (hL : L ≤ 3) : wpL_law (fun r => r = 1) L xs := by
  unfold wpL_law
  exact cs_cell (i := 0) hL (by omega) (fun _ => cs_cell (i := 1) hL (by omega) (fun _ => cs_cell (i := 2) hL (by omega) (fun _ => ⟨994, 15904, by omega, by omega, cs_law rfl (by omega) (by omega)⟩)))
end
