section
/-- the check value of a sector's content -/
def il_ck (s v : Int32) : Int32 := ((v ^^^ 1431655765) * 1540483477) + (s * 668265263)
theorem il_inv : (1540483477 : Int32) * 3852147133 = 1 := by decide
theorem il_mulK {x y : Int32} (h : x * 1540483477 = y * 1540483477) : x = y := by
  have e : x * 1540483477 * 3852147133 = y * 1540483477 * 3852147133 := by rw [h]
  rw [Int32.mul_assoc, Int32.mul_assoc, il_inv, Int32.mul_one, Int32.mul_one] at e
  exact e
theorem il_ck_inj {s v w : Int32} (h : il_ck s v = il_ck s w) : v = w := by
  unfold il_ck at h
  exact (Int32.xor_left_inj _).mp (il_mulK ((Int32.add_left_inj _).mp h))
theorem il_xz {h b : Int32} (e : h ^^^ b = h) : b = 0 := by
  have e' : h ^^^ b = h ^^^ 0 := by
    rw [Int32.xor_zero]
    exact e
  exact (Int32.xor_right_inj _).mp e'
theorem il_not {r : Int32} (e : r = r ^^^ (-1)) : False := absurd (il_xz e.symm) (by decide)
/-- k places from b on taken from y (from f on), the others from x -/
def il_fl (x y : Nat → Int32) (b f k : Nat) : Nat → Int32 := fun j => if b ≤ j ∧ j < b + k then y (f + (j - b)) else x j
theorem il_fl0 (x y : Nat → Int32) (b f : Nat) : il_fl x y b f 0 = x := by
  funext j
  exact if_neg (by omega)
theorem il_fl_in {x y : Nat → Int32} {b f k i : Nat} (h : i < k) : il_fl x y b f k (b + i) = y (f + i) := by
  unfold il_fl
  rw [if_pos (by omega), show b + i - b = i by omega]
theorem il_fl_out {x y : Nat → Int32} {b f k j : Nat} (h : j < b ∨ b + k ≤ j) : il_fl x y b f k j = x j := by
  unfold il_fl
  rw [if_neg (by omega)]
theorem il_fls (x y : Nat → Int32) (b f i : Nat) : upd (il_fl x y b f i) (b + i) (y (f + i)) = il_fl x y b f (i + 1) := by
  funext j
  by_cases e : j = b + i
  · rw [e, pk_us, il_fl_in (Nat.lt_succ_self i)]
  · rw [pk_un e]
    by_cases c : b ≤ j ∧ j < b + i
    · unfold il_fl
      rw [if_pos c, if_pos (by omega)]
    · rw [il_fl_out (by omega), il_fl_out (by omega)]
/-- a slot's sum over k entries -/
def il_sm (q y c : Nat → Int32) (b : Nat) (s : Int32) : Nat → Int32
  | 0 => s
  | k + 1 => ((il_sm q y c b s k * 31 + q (b + k)) * 31 + y (b + k)) * 31 + c (b + k)
theorem il_sm_eq {q y c q' y' c' : Nat → Int32} {b : Nat} {s : Int32} (k : Nat) (h : ∀ j, j < k → q (b + j) = q' (b + j) ∧ y (b + j) = y' (b + j) ∧ c (b + j) = c' (b + j)) : il_sm q y c b s k = il_sm q' y' c' b s k := by
  induction k with
  | zero => rfl
  | succ k ih =>
    obtain ⟨e1, e2, e3⟩ := h k (Nat.lt_succ_self k)
    show ((il_sm q y c b s k * 31 + q (b + k)) * 31 + y (b + k)) * 31 + c (b + k) = ((il_sm q' y' c' b s k * 31 + q' (b + k)) * 31 + y' (b + k)) * 31 + c' (b + k)
    rw [ih (fun j hj => h j (by omega)), e1, e2, e3]
/-- k entries of a slot copied home -/
def il_ap (q y : Nat → Int32) (b : Nat) (h : Nat → Int32) : Nat → Nat → Int32
  | 0 => h
  | k + 1 => upd (il_ap q y b h k) (q (b + k)).toNatClampNeg (y (b + k))
/-- the first i places of a table -/
def il_tab (g : Nat → Int32) (i : Nat) : Nat → Int32 := fun j => if j < i then g j else 0
theorem il_tab0 (g : Nat → Int32) : il_tab g 0 = fun _ => 0 := by
  funext j
  exact if_neg (by omega)
theorem il_tab_in {g : Nat → Int32} {i j : Nat} (h : j < i) : il_tab g i j = g j := if_pos h
theorem il_tabs (g : Nat → Int32) (i : Nat) : upd (il_tab g i) i (g i) = il_tab g (i + 1) := by
  funext j
  by_cases e : j = i
  · rw [e, pk_us, il_tab_in (Nat.lt_succ_self i)]
  · rw [pk_un e]
    by_cases c : j < i
    · rw [il_tab_in c, il_tab_in (by omega)]
    · unfold il_tab
      rw [if_neg c, if_neg (by omega)]
theorem il_at (s i : Nat) : nI s * 4 + nI i = nI (4 * s + i) := by
  rw [show (4 : Int32) = nI 4 from rfl, pk_mul, nI_add, Nat.mul_comm]
theorem il_at0 (s : Nat) : nI s * 4 = nI (4 * s + 0) := by
  rw [show (4 : Int32) = nI 4 from rfl, pk_mul, Nat.mul_comm]
  rfl
theorem il_m12 (x : Int32) {m : Int32} (k : Nat) (hm : m.toBitVec.toNat = 2 ^ k - 1) (hk : k ≤ 8) : ∃ j : Nat, j < 12 ∧ (x &&& m) - (x &&& m) / 12 * 12 = nI j := by
  obtain ⟨j, hj, e⟩ := pk_andE x k hm
  have h8 : 2 ^ k ≤ 2 ^ 8 := Nat.pow_le_pow_right (by decide) hk
  have hj' : j < 2 ^ 31 := by omega
  refine ⟨j % 12, Nat.mod_lt _ (by decide), ?_⟩
  rw [e]
  exact pk_rem hj' (by decide) (by decide)
/-- what clamping x to 0 .. 2 gives -/
def il_kp (x : Int32) (k : Nat) : Prop := (0 ≤ x ∧ x ≤ 2 ∧ x = nI k ∧ k ≤ 2) ∨ (0 ≤ x ∧ ¬ x ≤ 2 ∧ k = 2) ∨ (¬ 0 ≤ x ∧ k = 0)
theorem il_kp_le {x : Int32} {k : Nat} (h : il_kp x k) : k ≤ 2 := by
  rcases h with ⟨_, _, _, h⟩ | ⟨_, _, h⟩ | ⟨_, h⟩ <;> omega
theorem il_kp_ex (x : Int32) : ∃ k, il_kp x k := by
  by_cases h0 : 0 ≤ x
  · by_cases h2 : x ≤ 2
    · have h0' : ¬ x < 0 := Int32.not_lt.mpr h0
      obtain ⟨j, hj, e⟩ := nI_of2 (n := 2) (M := 2) (by decide) h0' h2
      exact ⟨j, Or.inl ⟨h0, h2, e, hj⟩⟩
    · exact ⟨2, Or.inr (Or.inl ⟨h0, h2, rfl⟩)⟩
  · exact ⟨0, Or.inr (Or.inr ⟨h0, rfl⟩)⟩
end
section
section
variable {hf ns wt md : Int32} {a1 a2 a3 a4 a5 a6 a7 a8 a9 a10 : Nat → Int32}
theorem il_bad {post : Int32 → Prop} {u : St0} {i : Nat} (hi : i < 12) (H : post 0) : wpX_bad post u (nI i) :=
  pk_lt i 0 (fun z => absurd z (by omega)) (fun _ => pk_lt i 12 (fun _ => H) (fun z => absurd z (by omega)))
theorem il_write {post : Int32 → St2 → Prop} {w i : Nat} {p1 : Int32} (hw : w < 20) (hi : i < 12)
    (H : post (nI (w + 1)) (hf, ns, nI (w + 1), md, a1, a2, a3, a4, a5, a6, a7, a8, upd a9 w (nI i), upd a10 w p1)) :
    wpX_write post (hf, ns, nI w, md, a1, a2, a3, a4, a5, a6, a7, a8, a9, a10) (nI i) p1 := by
  unfold wpX_write
  refine il_bad hi (br_t rfl (pk_lt w 20 (fun _ => ⟨pk_in w 20 hw, ?_⟩) (fun z => absurd z (by omega))))
  rw [nI_clamp (show w < 2 ^ 31 by omega)]
  exact nm_e ⟨pk_in w 20 hw, nm_e (nm_r (nI_1 w) H)⟩
theorem il_fill46 {post : Int32 → St2 → Prop} {sl f k : Nat} (hs : sl < 8) (hk : k ≤ 4) (hfk : f + k ≤ 20)
    (H : post (nI sl) (hf, ns, wt, md, a1, a2, a3, a4, a5, il_fl a6 a9 (4 * sl) f k, il_fl a7 a10 (4 * sl) f k, il_fl a8 (fun j => il_ck (a9 j) (a10 j)) (4 * sl) f k, a9, a10)) (r : Nat) :
    ∀ i, i + r = k → wX_fillSlot_46 post (nI f) (nI k) (nI sl) hf ns wt md (r + 1) (nI i) a1 a2 a3 a4 a5 (il_fl a6 a9 (4 * sl) f i) (il_fl a7 a10 (4 * sl) f i) (il_fl a8 (fun j => il_ck (a9 j) (a10 j)) (4 * sl) f i) a9 a10 := by
  induction r with
  | zero =>
    intro i h
    have e : i = k := by omega
    rw [e]
    exact pk_le k k (fun _ => H) (fun z => absurd z (by omega))
  | succ r ih =>
    intro i h
    have c1 : (nI f + nI i).toNatClampNeg = f + i := by rw [nI_add, nI_clamp (by omega)]
    have c2 : (nI (4 * sl + i)).toNatClampNeg = 4 * sl + i := nI_clamp (by omega)
    have v1 : vp_in (nI f + nI i) 20 := pk_in (f + i) 20 (by omega) (nI_add f i)
    have v2 : vp_in (nI (4 * sl + i)) 32 := pk_in (4 * sl + i) 32 (by omega)
    exact pk_le k i (fun z => absurd z (by omega)) (fun _ => nm_r (il_at sl i) ⟨v1, v2, nm_r (by rw [c1, c2]; exact il_fls a6 a9 (4 * sl) f i)
      ⟨v1, v2, nm_r (by rw [c1, c2]; exact il_fls a7 a10 (4 * sl) f i) ⟨v1, v1, And.intro v2 (nm_r (by rw [c1, c2]; exact il_fls a8 (fun j => il_ck (a9 j) (a10 j)) (4 * sl) f i)
        (nm_r (nI_1 i) (ih (i + 1) (by omega))))⟩⟩⟩)
theorem il_fill {post : Int32 → St2 → Prop} {sl f k : Nat} {p0 p1 : Int32} (h0 : p0 = nI f) (h1 : p1 = nI k) (h7 : ns - hf < 7) (hn : ns &&& 7 = nI sl) (hs : sl < 8) (hk : k ≤ 4) (hfk : f + k ≤ 20)
    (H : post (nI sl) (hf, ns, wt, md, a1, a2, upd a3 sl ns, upd a4 sl (nI k), a5, il_fl a6 a9 (4 * sl) f k, il_fl a7 a10 (4 * sl) f k, il_fl a8 (fun j => il_ck (a9 j) (a10 j)) (4 * sl) f k, a9, a10)) :
    wpX_fillSlot post (hf, ns, wt, md, a1, a2, a3, a4, a5, a6, a7, a8, a9, a10) p0 p1 := by
  subst h0 h1
  unfold wpX_fillSlot
  refine br_t h7 ?_
  unfold wX_fillSlot_18
  refine nm_r hn ⟨pk_in sl 8 hs, ?_⟩
  rw [nI_clamp (show sl < 2 ^ 31 by omega)]
  refine nm_e ⟨pk_in sl 8 hs, nm_e ⟨k + 1, ?_⟩⟩
  have t := il_fill46 (a3 := upd a3 sl ns) (a4 := upd a4 sl (nI k)) hs hk hfk H k 0 (Nat.zero_add k)
  rw [il_fl0, il_fl0, il_fl0] at t
  exact t
theorem il_sum21 {post : Int32 → Prop} {sl k : Nat} {s : Int32} (hs : sl < 8) (hk : k ≤ 4) (h4 : a4 sl = nI k) (H : post (il_sm a6 a7 a8 (4 * sl) s k)) (r : Nat) :
    ∀ i, i + r = k → wX_sumOf_21 post (nI sl) hf ns wt md a1 a2 a3 a4 a5 a6 a7 a8 a9 a10 (r + 1) (il_sm a6 a7 a8 (4 * sl) s i) (nI (4 * sl + i)) := by
  have e4 : nI sl * 4 + a4 (nI sl).toNatClampNeg = nI (4 * sl + k) := by rw [nI_clamp (by omega), h4, il_at]
  induction r with
  | zero =>
    intro i h
    have e : i = k := by omega
    rw [e]
    exact And.intro (pk_in sl 8 hs) (pk_le (4 * sl + k) (4 * sl + k) (fun _ => H) (fun z => absurd z (by omega)) e4)
  | succ r ih =>
    intro i h
    have c2 : (nI (4 * sl + i)).toNatClampNeg = 4 * sl + i := nI_clamp (by omega)
    have v2 : vp_in (nI (4 * sl + i)) 32 := pk_in (4 * sl + i) 32 (by omega)
    exact And.intro (pk_in sl 8 hs) (pk_le (4 * sl + k) (4 * sl + i) (fun z => absurd z (by omega)) (fun _ => ⟨v2, nm_e ⟨v2, nm_e ⟨v2, nm_r (by rw [c2]; rfl)
      (nm_r (nI_1 (4 * sl + i)) (ih (i + 1) (by omega)))⟩⟩⟩) e4)
theorem il_sum {post : Int32 → Prop} {sl k : Nat} {p0 : Int32} (hp : p0 = nI sl) (hs : sl < 8) (hk : k ≤ 4) (h4 : a4 sl = nI k) (H : post (il_sm a6 a7 a8 (4 * sl) (a3 sl * 31 + nI k) k)) :
    wpX_sumOf post (hf, ns, wt, md, a1, a2, a3, a4, a5, a6, a7, a8, a9, a10) p0 := by
  subst hp
  unfold wpX_sumOf
  exact ⟨pk_in sl 8 hs, pk_in sl 8 hs, nm_r (by rw [nI_clamp (by omega), h4]; rfl) (nm_r (il_at0 sl) ⟨k + 1, il_sum21 hs hk h4 H k 0 (Nat.zero_add k)⟩)⟩
theorem il_app4 {post : St2 → Prop} {sl k : Nat} {h0 c0 : Nat → Int32} (hs : sl < 8) (hk : k ≤ 4) (h4 : a4 sl = nI k) (h6 : ∀ i, i < k → ∃ m, m < 12 ∧ a6 (4 * sl + i) = nI m)
    (H : post (hf, ns, wt, md, il_ap a6 a7 (4 * sl) h0 k, il_ap a6 a8 (4 * sl) c0 k, a3, a4, a5, a6, a7, a8, a9, a10)) (r : Nat) :
    ∀ i, i + r = k → wX_applySlot_4 post (nI sl) hf ns wt md (r + 1) (nI (4 * sl + i)) (il_ap a6 a7 (4 * sl) h0 i) (il_ap a6 a8 (4 * sl) c0 i) a3 a4 a5 a6 a7 a8 a9 a10 := by
  have e4 : nI sl * 4 + a4 (nI sl).toNatClampNeg = nI (4 * sl + k) := by rw [nI_clamp (by omega), h4, il_at]
  induction r with
  | zero =>
    intro i h
    have e : i = k := by omega
    rw [e]
    exact And.intro (pk_in sl 8 hs) (pk_le (4 * sl + k) (4 * sl + k) (fun _ => H) (fun z => absurd z (by omega)) e4)
  | succ r ih =>
    intro i h
    have c2 : (nI (4 * sl + i)).toNatClampNeg = 4 * sl + i := nI_clamp (by omega)
    have v2 : vp_in (nI (4 * sl + i)) 32 := pk_in (4 * sl + i) 32 (by omega)
    have v3 : vp_in (a6 (nI (4 * sl + i)).toNatClampNeg) 12 := by
      obtain ⟨m, hm, e⟩ := h6 i (by omega)
      rw [c2, e]
      exact pk_in m 12 hm
    exact And.intro (pk_in sl 8 hs) (pk_le (4 * sl + k) (4 * sl + i) (fun z => absurd z (by omega)) (fun _ => ⟨v2, v2, v3, nm_r (by rw [c2]; rfl) ⟨v2, v2, v3, nm_r (by rw [c2]; rfl)
      (nm_r (nI_1 (4 * sl + i)) (ih (i + 1) (by omega)))⟩⟩) e4)
theorem il_app {post : St2 → Prop} {sl k : Nat} {p0 : Int32} (hp : p0 = nI sl) (hs : sl < 8) (hk : k ≤ 4) (h4 : a4 sl = nI k) (h6 : ∀ i, i < k → ∃ m, m < 12 ∧ a6 (4 * sl + i) = nI m)
    (H : post (hf, ns, wt, md, il_ap a6 a7 (4 * sl) a1 k, il_ap a6 a8 (4 * sl) a2 k, a3, a4, a5, a6, a7, a8, a9, a10)) : wpX_applySlot post (hf, ns, wt, md, a1, a2, a3, a4, a5, a6, a7, a8, a9, a10) p0 := by
  subst hp
  unfold wpX_applySlot
  exact nm_r (il_at0 sl) ⟨k + 1, il_app4 hs hk h4 h6 H k 0 (Nat.zero_add k)⟩
theorem il_copy0 {post : St2 → Prop} {x : Int32} (H : post (x, x, wt, md, a1, a2, a3, a4, a5, a6, a7, a8, a9, a10)) : wpX_copyHome post (x, x, wt, md, a1, a2, a3, a4, a5, a6, a7, a8, a9, a10) :=
  Exists.intro 1 (br_t (Int32.le_refl x) H)
theorem il_copy1 {post : St2 → Prop} (h4 : a4 0 = nI 1) (h6 : ∃ m, m < 12 ∧ a6 0 = nI m)
    (H : post (nI 1, nI 1, wt, md, upd a1 (a6 0).toNatClampNeg (a7 0), upd a2 (a6 0).toNatClampNeg (a8 0), a3, a4, a5, a6, a7, a8, a9, a10)) : wpX_copyHome post (nI 0, nI 1, wt, md, a1, a2, a3, a4, a5, a6, a7, a8, a9, a10) := by
  unfold wpX_copyHome
  refine Exists.intro 2 (pk_le 1 0 (fun z => absurd z (by omega)) (fun _ => ?_))
  refine il_app (sl := 0) (k := 1) (by decide) (by omega) (by omega) h4 (fun i hi => ?_) ?_
  · have e : i = 0 := by omega
    rw [e]
    exact h6
  · exact nm_r (nI_1 0) (pk_le 1 1 (fun _ => H) (fun z => absurd z (by omega)))
theorem il_commit {post : St2 → Prop} {N k : Nat} (hN : N < 8) (h7 : nI N - hf < 7) (h1 : 1 ≤ k) (h3 : k ≤ 3)
    (H : ∀ s, s = il_sm (il_fl a6 a9 (4 * N) 0 k) (il_fl a7 a10 (4 * N) 0 k) (il_fl a8 (fun j => il_ck (a9 j) (a10 j)) (4 * N) 0 k) (4 * N) (nI N * 31 + nI k) k →
      post (hf, nI (N + 1), wt, md + nI k, a1, a2, upd a3 N (nI N), upd a4 N (nI k), upd a5 N s, il_fl a6 a9 (4 * N) 0 k, il_fl a7 a10 (4 * N) 0 k, il_fl a8 (fun j => il_ck (a9 j) (a10 j)) (4 * N) 0 k, a9, a10)) :
    wpX_commit post (hf, nI N, wt, md, a1, a2, a3, a4, a5, a6, a7, a8, a9, a10) (nI k) := by
  have hn : nI N &&& 7 = nI N := by
    rw [pk_andN (show N < 2 ^ 32 by omega) 3 (by decide), Nat.mod_eq_of_lt (show N < 2 ^ 3 by omega)]
  unfold wpX_commit
  refine Exists.intro 2 (pk_le k 0 (fun z => absurd z (by omega)) (fun _ => ?_))
  have e : nI k - 0 = nI k := pk_sub (Nat.zero_le k)
  refine pk_le 4 k (fun z => absurd z (by omega)) (fun _ => ?_) rfl e
  unfold wX_commit_21
  refine il_fill (f := 0) (k := k) (sl := N) rfl e h7 hn hN (by omega) (by omega) ?_
  refine il_sum (k := k) (sl := N) rfl hN (by omega) pk_us ?_
  refine ⟨pk_in N 8 hN, ?_⟩
  rw [nI_clamp (show N < 2 ^ 31 by omega), pk_us]
  exact nm_e (nm_r (nI_1 N) (nm_e (pk_le k 4 (fun _ => nm_e (H _ rfl)) (fun z => absurd z (by omega)))))
theorem il_commit0 {post : St2 → Prop} (H : post (hf, ns, wt, md, a1, a2, a3, a4, a5, a6, a7, a8, a9, a10)) : wpX_commit post (hf, ns, wt, md, a1, a2, a3, a4, a5, a6, a7, a8, a9, a10) 0 :=
  Exists.intro 1 (br_t (Int32.le_refl 0) (nm_r (Int32.add_zero md) H))
theorem il_drop1 {post : St2 → Prop} (H : post (hf, ns, 0, md, a1, a2, a3, a4, a5, a6, a7, a8, a9, a10)) : wpX_dropWaiting post (hf, ns, 1, md, a1, a2, a3, a4, a5, a6, a7, a8, a9, a10) 1 :=
  nm_r (e' := (0 : Int32)) (by decide) (Exists.intro 1 (br_t (Int32.le_refl 0) H))
theorem il_flush {post : Int32 → St2 → Prop}
    (H : ∀ s, post 1 (0, nI 1, 0, nI 1, a1, a2, upd a3 0 (nI 0), upd a4 0 (nI 1), upd a5 0 s, il_fl a6 a9 0 0 1, il_fl a7 a10 0 0 1, il_fl a8 (fun j => il_ck (a9 j) (a10 j)) 0 0 1, a9, a10)) :
    wpX_flush post (0, nI 0, 1, 0, a1, a2, a3, a4, a5, a6, a7, a8, a9, a10) := by
  unfold wpX_flush
  refine il_commit (N := 0) (k := 1) (by omega) (by decide) (by omega) (by omega) (fun s _ => ?_)
  exact il_drop1 (H s)
theorem il_dmg {post : Int32 → Prop} {d : Nat} (hd : d < 12) (Hg : a2 d = il_ck (nI d) (a1 d) → post 0) (Hb : ¬ a2 d = il_ck (nI d) (a1 d) → post 1) :
    wpX_isDamaged post (hf, ns, wt, md, a1, a2, a3, a4, a5, a6, a7, a8, a9, a10) (nI d) := by
  have e : (nI d).toNatClampNeg = d := nI_clamp (by omega)
  unfold wpX_isDamaged
  exact And.intro (pk_in d 12 hd) (And.intro (pk_in d 12 hd) (ek_if (by rw [e]; exact Iff.rfl) Hg Hb))
theorem il_damage {post : Int32 → St2 → Prop} {d : Nat} {p1 : Int32} (h4 : a4 0 = nI 1) (h6 : ∃ m, m < 12 ∧ a6 0 = nI m) (hd : d < 12)
    {h c : Nat → Int32} (eh : upd a1 (a6 0).toNatClampNeg (a7 0) = h) (ec : upd a2 (a6 0).toNatClampNeg (a8 0) = c) (hg : c d = il_ck (nI d) (h d))
    (H0 : p1 = 0 → post 0 (nI 1, nI 1, wt, md, upd h d (h d ^^^ p1), c, a3, a4, a5, a6, a7, a8, a9, a10))
    (H1 : ¬ p1 = 0 → post 1 (nI 1, nI 1, wt, md, upd h d (h d ^^^ p1), c, a3, a4, a5, a6, a7, a8, a9, a10)) :
    wpX_damage post (nI 0, nI 1, wt, md, a1, a2, a3, a4, a5, a6, a7, a8, a9, a10) (nI d) p1 := by
  unfold wpX_damage
  refine il_bad hd (br_t rfl (il_copy1 h4 h6 ?_))
  rw [eh, ec]
  refine il_dmg hd (fun _ => br_t rfl ⟨pk_in d 12 hd, pk_in d 12 hd, ?_⟩) (fun z => absurd hg z)
  rw [nI_clamp (show d < 2 ^ 31 by omega)]
  exact nm_e (br_t rfl (br_c H0 H1))
theorem il_nw0 {post : Int32 → Prop} {z : Int32} (H : post (-1)) : wpX_newestWaiting post (hf, ns, 0, md, a1, a2, a3, a4, a5, a6, a7, a8, a9, a10) z :=
  nm_r (e' := (-1 : Int32)) (by decide) (Exists.intro 1 (br_t (by decide) H))
theorem il_nw2 {post : Int32 → Prop} {z : Int32} (H1 : a9 1 = z → post (nI 1)) (H0 : ¬ a9 1 = z → a9 0 = z → post (nI 0)) (Hn : ¬ a9 1 = z → ¬ a9 0 = z → post (-1)) :
    wpX_newestWaiting post (hf, ns, nI 2, md, a1, a2, a3, a4, a5, a6, a7, a8, a9, a10) z :=
  nm_r (e' := nI 1) (by decide) (Exists.intro 3 (br_f (by decide) (And.intro (pk_in 1 20 (by omega)) (ek_if (by rw [nI_clamp (by omega)]) H1 (fun z1 =>
    nm_r (e' := nI 0) (by decide) (br_f (by decide) (And.intro (pk_in 0 20 (by omega)) (ek_if (by rw [nI_clamp (by omega)]) (H0 z1) (fun z0 =>
      nm_r (e' := (-1 : Int32)) (by decide) (br_t (by decide) (Hn z1 z0)))))))))))
theorem il_nj {post : Int32 → Prop} {x z : Int32} (H : post (-1)) : wpX_newestJournaled post (x, x, wt, md, a1, a2, a3, a4, a5, a6, a7, a8, a9, a10) z :=
  Exists.intro 1 (br_t (Int32.le_refl x) H)
theorem il_dgood {post : Int32 → Prop} {x : Int32} {d : Nat} (hd : d < 12) (Hg : a2 d = il_ck (nI d) (a1 d) → post 1) (Hb : ¬ a2 d = il_ck (nI d) (a1 d) → post 0) :
    wpX_durableGood post (x, x, wt, md, a1, a2, a3, a4, a5, a6, a7, a8, a9, a10) (nI d) := by
  unfold wpX_durableGood
  exact il_nj (br_t (by decide) (il_dmg hd (fun h => br_t rfl (Hg h)) (fun h => br_f (by decide) (Hb h))))
theorem il_dvalue {post : Int32 → Prop} {x : Int32} {d : Nat} (hd : d < 12) (H : post (a1 d)) : wpX_durableValue post (x, x, wt, md, a1, a2, a3, a4, a5, a6, a7, a8, a9, a10) (nI d) := by
  unfold wpX_durableValue
  refine il_nj (br_t (by decide) ⟨pk_in d 12 hd, ?_⟩)
  rw [nI_clamp (show d < 2 ^ 31 by omega)]
  exact H
theorem il_readable0 {post : Int32 → Prop} {x : Int32} {d : Nat} (hd : d < 12) (Hg : a2 d = il_ck (nI d) (a1 d) → post 1) (Hb : ¬ a2 d = il_ck (nI d) (a1 d) → post 0) :
    wpX_readable post (x, x, 0, md, a1, a2, a3, a4, a5, a6, a7, a8, a9, a10) (nI d) := by
  unfold wpX_readable
  exact il_bad hd (br_t rfl (il_nw0 (br_f (by decide) (il_dgood hd (fun h => br_f (by decide) (Hg h)) (fun h => br_t rfl (Hb h))))))
theorem il_readable2 {post : Int32 → Prop} {x : Int32} {d : Nat} (hd : d < 12) (Hw : (a9 1 = nI d ∨ a9 0 = nI d) → post 1)
    (Hg : ¬ a9 1 = nI d → ¬ a9 0 = nI d → a2 d = il_ck (nI d) (a1 d) → post 1) (Hb : ¬ a9 1 = nI d → ¬ a9 0 = nI d → ¬ a2 d = il_ck (nI d) (a1 d) → post 0) :
    wpX_readable post (x, x, nI 2, md, a1, a2, a3, a4, a5, a6, a7, a8, a9, a10) (nI d) := by
  unfold wpX_readable
  exact il_bad hd (br_t rfl (il_nw2 (fun h => br_t (by decide) (Hw (Or.inl h))) (fun _ h => br_t (by decide) (Hw (Or.inr h)))
    (fun h1 h0 => br_f (by decide) (il_dgood hd (fun h => br_f (by decide) (Hg h1 h0 h)) (fun h => br_t rfl (Hb h1 h0 h))))))
theorem il_read0 {post : Int32 → Prop} {x : Int32} {d : Nat} (hd : d < 12) (Hg : a2 d = il_ck (nI d) (a1 d) → post (a1 d)) (Hb : ¬ a2 d = il_ck (nI d) (a1 d) → post 0) :
    wpX_read post (x, x, 0, md, a1, a2, a3, a4, a5, a6, a7, a8, a9, a10) (nI d) := by
  unfold wpX_read
  exact il_bad hd (br_t rfl (il_nw0 (br_t (by decide) (il_dgood hd (fun h => br_f (by decide) (il_dvalue hd (Hg h))) (fun h => br_t rfl (Hb h))))))
theorem il_read2 {post : Int32 → Prop} {x : Int32} {d : Nat} (hd : d < 12) (H1 : a9 1 = nI d → post (a10 1)) (H0 : ¬ a9 1 = nI d → a9 0 = nI d → post (a10 0))
    (Hg : ¬ a9 1 = nI d → ¬ a9 0 = nI d → a2 d = il_ck (nI d) (a1 d) → post (a1 d)) (Hb : ¬ a9 1 = nI d → ¬ a9 0 = nI d → ¬ a2 d = il_ck (nI d) (a1 d) → post 0) :
    wpX_read post (x, x, nI 2, md, a1, a2, a3, a4, a5, a6, a7, a8, a9, a10) (nI d) := by
  unfold wpX_read
  refine il_bad hd (br_t rfl (il_nw2 (fun h => br_f (by decide) ⟨pk_in 1 20 (by omega), ?_⟩) (fun h h' => br_f (by decide) ⟨pk_in 0 20 (by omega), ?_⟩)
    (fun h1 h0 => br_t (by decide) (il_dgood hd (fun h => br_f (by decide) (il_dvalue hd (Hg h1 h0 h))) (fun h => br_t rfl (Hb h1 h0 h))))))
  · rw [nI_clamp (by omega)]
    exact H1 h
  · rw [nI_clamp (by omega)]
    exact H0 h h'
end
end
section
section
variable {hf ns wt md : Int32} {a1 a2 a3 a4 a5 a6 a7 a8 a9 a10 : Nat → Int32}
/-- slot sl is not a whole section of number p -/
def il_torn (a3 a4 a5 a6 a7 a8 : Nat → Int32) (sl : Nat) (p : Int32) : Prop :=
  ¬ a3 sl = p ∨ ∃ k, 1 ≤ k ∧ k ≤ 4 ∧ a3 sl = p ∧ a4 sl = nI k ∧ ¬ il_sm a6 a7 a8 (4 * sl) (p * 31 + nI k) k = a5 sl
theorem il_whole {post : Int32 → Prop} {sl k : Nat} {p0 p1 : Int32} (hp : p0 = nI sl) (hs : sl < 8) (h3 : a3 sl = p1) (h4 : a4 sl = nI k) (k1 : 1 ≤ k) (k4 : k ≤ 4)
    (Ht : il_sm a6 a7 a8 (4 * sl) (p1 * 31 + nI k) k = a5 sl → post 1) (Hf : ¬ il_sm a6 a7 a8 (4 * sl) (p1 * 31 + nI k) k = a5 sl → post 0) :
    wpX_whole post (hf, ns, wt, md, a1, a2, a3, a4, a5, a6, a7, a8, a9, a10) p0 p1 := by
  subst hp h3
  have e : (nI sl).toNatClampNeg = sl := nI_clamp (by omega)
  unfold wpX_whole
  refine And.intro (pk_in sl 8 hs) (br_t (by rw [e]) ⟨pk_in sl 8 hs, ?_⟩)
  have e4 : a4 (nI sl).toNatClampNeg = nI k := by rw [e, h4]
  refine pk_lt k 1 (fun z => absurd z (by omega)) (fun _ => ⟨pk_in sl 8 hs, ?_⟩) e4
  refine pk_le k 4 (fun _ => ?_) (fun z => absurd z (by omega)) e4
  exact il_sum rfl hs k4 h4 ⟨pk_in sl 8 hs, ek_if (by rw [e]) Ht Hf⟩
theorem il_whole0 {post : Int32 → Prop} {sl : Nat} {p0 p1 : Int32} (hp : p0 = nI sl) (hs : sl < 8) (h : il_torn a3 a4 a5 a6 a7 a8 sl p1) (H : post 0) :
    wpX_whole post (hf, ns, wt, md, a1, a2, a3, a4, a5, a6, a7, a8, a9, a10) p0 p1 := by
  rcases h with h | ⟨k, k1, k4, h3, h4, h⟩
  · subst hp
    unfold wpX_whole
    exact And.intro (pk_in sl 8 hs) (br_f (by rw [nI_clamp (by omega)]; exact h) H)
  · exact il_whole hp hs h3 h4 k1 k4 (fun z => absurd z h) (fun _ => H)
theorem il_replayA {post : St2 → Prop} (h : il_torn a3 a4 a5 a6 a7 a8 1 (nI 1)) (H : post (nI 1, nI 1, wt, md, a1, a2, a3, a4, a5, a6, a7, a8, a9, a10)) : wpX_replay post (nI 1, ns, wt, md, a1, a2, a3, a4, a5, a6, a7, a8, a9, a10) := by
  unfold wpX_replay
  refine Exists.intro 2 (br_f (by decide) (br_f (by decide) (il_whole0 (sl := 1) (by decide) (by omega) h ?_)))
  exact br_t rfl (nm_r (nI_1 0) (br_f (by decide) (br_t rfl H)))
theorem il_replayB {post : St2 → Prop} {k : Nat} (k1 : 1 ≤ k) (k4 : k ≤ 4) (h3 : a3 1 = nI 1) (h4 : a4 1 = nI k) (h5 : il_sm a6 a7 a8 (4 * 1) (nI 1 * 31 + nI k) k = a5 1)
    (h6 : ∀ i, i < k → ∃ m, m < 12 ∧ a6 (4 * 1 + i) = nI m) (h : il_torn a3 a4 a5 a6 a7 a8 2 (nI 2))
    (H : post (nI 2, nI 2, wt, md, il_ap a6 a7 (4 * 1) a1 k, il_ap a6 a8 (4 * 1) a2 k, a3, a4, a5, a6, a7, a8, a9, a10)) : wpX_replay post (nI 1, ns, wt, md, a1, a2, a3, a4, a5, a6, a7, a8, a9, a10) := by
  unfold wpX_replay
  refine Exists.intro 3 (br_f (by decide) (br_f (by decide) (il_whole (sl := 1) (k := k) (by decide) (by omega) h3 h4 k1 k4 (fun _ => ?_) (fun z => absurd h5 z))))
  refine br_f (by decide) (il_app (sl := 1) (k := k) (by decide) (by omega) k4 h4 h6 ?_)
  refine nm_r (nI_1 1) (nm_r (nI_1 0) ?_)
  refine br_f (by decide) (br_f (by decide) (il_whole0 (sl := 2) (by decide) (by omega) h ?_))
  exact br_t rfl (nm_r (nI_1 1) (br_f (by decide) (br_t rfl H)))
theorem il_tear {post : St2 → Prop} {N f k : Nat} {p0 p1 : Int32} (e0 : p0 = nI f) (e1 : p1 = nI k) (hN : N < 8) (h7 : nI N - hf < 7) (k3 : k ≤ 3) (hfk : f + k ≤ 20)
    (H : ∀ s, s = il_sm (il_fl a6 a9 (4 * N) f k) (il_fl a7 a10 (4 * N) f k) (il_fl a8 (fun j => il_ck (a9 j) (a10 j)) (4 * N) f k) (4 * N) (nI N * 31 + nI k) k →
      post (hf, nI N, wt, md, a1, a2, upd a3 N (nI N), upd a4 N (nI k), upd a5 N (s ^^^ (-1)), il_fl a6 a9 (4 * N) f k, il_fl a7 a10 (4 * N) f k, il_fl a8 (fun j => il_ck (a9 j) (a10 j)) (4 * N) f k, a9, a10)) :
    wpX_tear post (hf, nI N, wt, md, a1, a2, a3, a4, a5, a6, a7, a8, a9, a10) p0 p1 := by
  have hn : nI N &&& 7 = nI N := by
    rw [pk_andN (show N < 2 ^ 32 by omega) 3 (by decide), Nat.mod_eq_of_lt (show N < 2 ^ 3 by omega)]
  unfold wpX_tear
  refine pk_le 4 k (fun z => absurd z (by omega)) (fun _ => ?_) rfl e1
  unfold wX_tear_10
  refine il_fill (f := f) (k := k) (sl := N) e0 e1 h7 hn hN (by omega) (by omega) ?_
  refine il_sum (k := k) (sl := N) rfl hN (by omega) pk_us ?_
  refine ⟨pk_in N 8 hN, ?_⟩
  rw [nI_clamp (show N < 2 ^ 31 by omega), pk_us]
  exact nm_e (H _ rfl)
theorem il_clamp {post : Int32 → Prop} {x : Int32} {k : Nat} (h : il_kp x k) (H : post (nI k)) : wpX_clampWaiting post (hf, ns, nI 2, md, a1, a2, a3, a4, a5, a6, a7, a8, a9, a10) x := by
  unfold wpX_clampWaiting
  rcases h with ⟨h0, h2, e, _⟩ | ⟨h0, h2, e⟩ | ⟨h0, e⟩
  · rw [e] at h0 h2 ⊢
    exact br_t h0 (br_t h2 H)
  · rw [e] at H
    exact br_t h0 (br_f h2 H)
  · rw [e] at H
    exact br_f h0 H
theorem il_crash0 {post : Int32 → St2 → Prop} {x : Int32} (h : il_kp x 0)
    (H : ∀ e3 e4 e5 e6 e7 e8, post (nI 2) (nI 1, nI 1, 0, nI 1, a1, a2, e3, e4, e5, e6, e7, e8, a9, a10)) :
    wpX_crash post (nI 1, nI 1, nI 2, nI 1, a1, a2, a3, a4, a5, a6, a7, a8, a9, a10) x := by
  unfold wpX_crash
  refine il_clamp h (il_commit0 ?_)
  refine nm_r (e' := nI 2) (by decide) (br_f (by decide) (il_tear (N := 1) (f := 0) (k := 2) rfl rfl (by omega) (by decide) (by omega) (by omega) (fun s hs => ?_)))
  unfold wX_crash_28
  refine il_replayA (Or.inr ⟨2, by omega, by omega, pk_us, pk_us, ?_⟩) (H _ _ _ _ _ _)
  rw [pk_us, ← hs]
  exact fun z => il_not z
theorem il_crash1 {post : Int32 → St2 → Prop} {x : Int32} {b : Nat} (h : il_kp x 1) (hb : b < 12) (h9 : a9 0 = nI b)
    (H : ∀ e3 e4 e5 e6 e7 e8, post (nI 1) (nI 2, nI 2, 0, nI 2, upd a1 b (a10 0), upd a2 b (il_ck (nI b) (a10 0)), e3, e4, e5, e6, e7, e8, a9, a10)) :
    wpX_crash post (nI 1, nI 1, nI 2, nI 1, a1, a2, a3, a4, a5, a6, a7, a8, a9, a10) x := by
  unfold wpX_crash
  refine il_clamp h (il_commit (N := 1) (k := 1) (by omega) (by decide) (by omega) (by omega) (fun s hs => ?_))
  refine nm_r (e' := nI 1) (by decide) (br_f (by decide) (il_tear (N := 2) (f := 1) (k := 1) rfl rfl (by omega) (by decide) (by omega) (by omega) (fun t ht => ?_)))
  unfold wX_crash_28
  have o6 : il_fl (il_fl a6 a9 (4 * 1) 0 1) a9 (4 * 2) 1 1 (4 * 1 + 0) = nI b := by
    rw [il_fl_out (by omega), il_fl_in (by omega)]
    exact h9
  have o7 : il_fl (il_fl a7 a10 (4 * 1) 0 1) a10 (4 * 2) 1 1 (4 * 1 + 0) = a10 0 := by
    rw [il_fl_out (by omega), il_fl_in (by omega)]
  have o8 : il_fl (il_fl a8 (fun j => il_ck (a9 j) (a10 j)) (4 * 1) 0 1) (fun j => il_ck (a9 j) (a10 j)) (4 * 2) 1 1 (4 * 1 + 0) = il_ck (nI b) (a10 0) := by
    rw [il_fl_out (by omega), il_fl_in (by omega), ← h9]
  refine il_replayB (k := 1) (by omega) (by omega) ?_ ?_ ?_ ?_ ?_ ?_
  · rw [pk_un (by omega), pk_us]
  · rw [pk_un (by omega), pk_us]
  · rw [pk_un (by omega), pk_us, hs]
    exact il_sm_eq 1 (fun j hj => ⟨il_fl_out (by omega), il_fl_out (by omega), il_fl_out (by omega)⟩)
  · intro i hi
    have e : i = 0 := by omega
    rw [e]
    exact ⟨b, hb, o6⟩
  · refine Or.inr ⟨1, by omega, by omega, pk_us, pk_us, ?_⟩
    rw [pk_us, ← ht]
    exact fun z => il_not z
  · unfold il_ap
    rw [o6, o7, o8, nI_clamp (show b < 2 ^ 31 by omega)]
    exact H _ _ _ _ _ _
theorem il_crash2 {post : Int32 → St2 → Prop} {x : Int32} {b c : Nat} (h : il_kp x 2) (hb : b < 12) (hc : c < 12) (h9 : a9 0 = nI b) (h9' : a9 1 = nI c) (h3 : ¬ a3 2 = nI 2)
    (H : ∀ e3 e4 e5 e6 e7 e8, post (nI 0) (nI 2, nI 2, 0, nI 3, upd (upd a1 b (a10 0)) c (a10 1), upd (upd a2 b (il_ck (nI b) (a10 0))) c (il_ck (nI c) (a10 1)), e3, e4, e5, e6, e7, e8, a9, a10)) :
    wpX_crash post (nI 1, nI 1, nI 2, nI 1, a1, a2, a3, a4, a5, a6, a7, a8, a9, a10) x := by
  unfold wpX_crash
  refine il_clamp h (il_commit (N := 1) (k := 2) (by omega) (by decide) (by omega) (by omega) (fun s hs => ?_))
  refine nm_r (e' := nI 0) (by decide) (br_t (by decide) ?_)
  unfold wX_crash_28
  have o6 : il_fl a6 a9 (4 * 1) 0 2 (4 * 1 + 0) = nI b := by
    rw [il_fl_in (by omega)]
    exact h9
  have q6 : il_fl a6 a9 (4 * 1) 0 2 (4 * 1 + 1) = nI c := by
    rw [il_fl_in (by omega)]
    exact h9'
  have o7 : il_fl a7 a10 (4 * 1) 0 2 (4 * 1 + 0) = a10 0 := il_fl_in (by omega)
  have q7 : il_fl a7 a10 (4 * 1) 0 2 (4 * 1 + 1) = a10 1 := il_fl_in (by omega)
  have o8 : il_fl a8 (fun j => il_ck (a9 j) (a10 j)) (4 * 1) 0 2 (4 * 1 + 0) = il_ck (nI b) (a10 0) := by
    rw [il_fl_in (by omega), ← h9]
  have q8 : il_fl a8 (fun j => il_ck (a9 j) (a10 j)) (4 * 1) 0 2 (4 * 1 + 1) = il_ck (nI c) (a10 1) := by
    rw [il_fl_in (by omega), ← h9']
  refine il_replayB (k := 2) (by omega) (by omega) pk_us pk_us ?_ ?_ ?_ ?_
  · rw [pk_us, hs]
  · intro i hi
    by_cases e : i = 0
    · rw [e]
      exact ⟨b, hb, o6⟩
    · have e' : i = 1 := by omega
      rw [e']
      exact ⟨c, hc, q6⟩
  · refine Or.inl ?_
    rw [pk_un (by omega)]
    exact h3
  · unfold il_ap
    unfold il_ap
    unfold il_ap
    rw [o6, o7, o8, q6, q7, q8, nI_clamp (show b < 2 ^ 31 by omega), nI_clamp (show c < 2 ^ 31 by omega)]
    exact H _ _ _ _ _ _
theorem il_scrub8 {post : Int32 → St2 → Prop} {d t : Nat} (ht : t ≤ 1) (hd : d < 12) (hz : ∀ z, z < 12 → z ≠ d → a2 z = il_ck (nI z) (a1 z)) (hg : a2 d = il_ck (nI d) (a1 d) ↔ t = 0)
    (H : post (nI t) (hf, ns, wt, md, a1, a2, a3, a4, a5, a6, a7, a8, a9, a10)) (r : Nat) : ∀ i, i + r = 12 → wX_scrub_8 post hf ns wt md a1 a2 a3 a4 a5 a6 a7 a8 a9 a10 (r + 1) (nI (if d < i then t else 0)) (nI i) := by
  induction r with
  | zero =>
    intro i h
    have e : i = 12 := by omega
    rw [e, if_pos hd]
    exact pk_le 12 12 (fun _ => H) (fun z => absurd z (by omega))
  | succ r ih =>
    intro i h
    refine pk_le 12 i (fun z => absurd z (by omega)) (fun _ => ?_)
    have t1 := ih (i + 1) (by omega)
    by_cases e : i = d
    · have n1 : ¬ d < i := by omega
      rw [if_pos (show d < i + 1 by omega)] at t1
      rw [if_neg n1]
      refine il_dmg (by omega) (fun g => br_t rfl (nm_r (nI_1 i) ?_)) (fun g => br_f (by decide) (nm_r (nI_1 0) (nm_r (nI_1 i) ?_)))
      · rw [e] at g
        rw [hg.mp g] at t1
        exact t1
      · rw [e] at g
        have t0 : t ≠ 0 := fun z => g (hg.mpr z)
        have t2 : t = 1 := by omega
        rw [t2] at t1
        exact t1
    · have e' : (if d < i + 1 then t else 0) = (if d < i then t else 0) := by
        by_cases c : d < i
        · rw [if_pos c, if_pos (by omega)]
        · rw [if_neg c, if_neg (by omega)]
      rw [e'] at t1
      exact il_dmg (by omega) (fun g => br_t rfl (nm_r (nI_1 i) t1)) (fun g => absurd (hz i (by omega) e) g)
theorem il_scrub {post : Int32 → St2 → Prop} {x : Int32} {d t : Nat} (ht : t ≤ 1) (hd : d < 12) (hz : ∀ z, z < 12 → z ≠ d → a2 z = il_ck (nI z) (a1 z)) (hg : a2 d = il_ck (nI d) (a1 d) ↔ t = 0)
    (H : post (nI t) (x, x, wt, md, a1, a2, a3, a4, a5, a6, a7, a8, a9, a10)) : wpX_scrub post (x, x, wt, md, a1, a2, a3, a4, a5, a6, a7, a8, a9, a10) := by
  unfold wpX_scrub
  refine il_copy0 (Exists.intro 13 ?_)
  have h := il_scrub8 ht hd hz hg H 12 0 rfl
  rw [if_neg (by omega)] at h
  exact h
theorem il_risk4 {post : Int32 → Prop} (H : post 0) (r : Nat) : ∀ i, i + r = 12 → wX_atRisk_4 post hf ns 0 md a1 a2 a3 a4 a5 a6 a7 a8 a9 a10 (r + 1) 0 (nI i) := by
  induction r with
  | zero =>
    intro i h
    have e : i = 12 := by omega
    rw [e]
    exact pk_le 12 12 (fun _ => H) (fun z => absurd z (by omega))
  | succ r ih =>
    intro i h
    exact pk_le 12 i (fun z => absurd z (by omega)) (fun _ => il_nw0 (br_t (by decide) (nm_r (nI_1 i) (ih (i + 1) (by omega)))))
theorem il_risk {post : Int32 → Prop} (H : post 0) : wpX_atRisk post (hf, ns, 0, md, a1, a2, a3, a4, a5, a6, a7, a8, a9, a10) :=
  Exists.intro 13 (il_risk4 H 12 0 rfl)
theorem il_init111 {post : St2 → Prop} {mc ms kc ks : Nat} (H : post (hf, ns, wt, md, a1, a2, il_tab (fun _ => -1) 8, a4, a5, a6, a7, a8, a9, a10)) (r : Nat) :
    ∀ i, i + r = 8 → wX_init_111 post mc ms kc ks hf ns wt md (r + 1) (nI i) a1 a2 (il_tab (fun _ => -1) i) a4 a5 a6 a7 a8 a9 a10 := by
  induction r with
  | zero =>
    intro i h
    have e : i = 8 := by omega
    rw [e]
    exact pk_le 8 8 (fun _ => H) (fun z => absurd z (by omega))
  | succ r ih =>
    intro i h
    exact pk_le 8 i (fun z => absurd z (by omega)) (fun _ => ⟨pk_in i 8 (by omega), nm_r (by rw [nI_clamp (by omega)]; exact il_tabs (fun _ => -1) i) (nm_r (nI_1 i) (ih (i + 1) (by omega)))⟩)
theorem il_init86 {post : St2 → Prop} {mc ms kc ks : Nat} (H : post (hf, ns, wt, md, a1, il_tab (fun j => il_ck (nI j) 0) 12, il_tab (fun _ => -1) 8, a4, a5, a6, a7, a8, a9, a10)) (r : Nat) :
    ∀ i, i + r = 12 → wX_init_86 post mc ms kc ks hf ns wt md (r + 1) (nI i) a1 (il_tab (fun j => il_ck (nI j) 0) i) (fun _ => 0) a4 a5 a6 a7 a8 a9 a10 := by
  induction r with
  | zero =>
    intro i h
    have e : i = 12 := by omega
    rw [e]
    refine pk_le 12 12 (fun _ => Exists.intro 9 ?_) (fun z => absurd z (by omega))
    have t := il_init111 (mc := mc) (ms := ms) (kc := kc) (ks := ks) H 8 0 rfl
    rw [il_tab0] at t
    exact t
  | succ r ih =>
    intro i h
    exact pk_le 12 i (fun z => absurd z (by omega)) (fun _ => And.intro (pk_in i 12 (by omega)) (nm_r (by rw [nI_clamp (by omega)]; exact il_tabs (fun j => il_ck (nI j) 0) i) (nm_r (nI_1 i) (ih (i + 1) (by omega)))))
end
theorem il_init {post : St2 → Prop} (H : post (0, 0, 0, 0, (fun _ => 0), il_tab (fun j => il_ck (nI j) 0) 12, il_tab (fun _ => -1) 8, (fun _ => 0), (fun _ => 0), (fun _ => 0), (fun _ => 0), (fun _ => 0), (fun _ => 0), (fun _ => 0))) :
    wpX_init post 10 184 (0, 0, 0, 0) := by
  have t := il_init86 (mc := 10) (ms := 184) (kc := 10) (ks := 184) H 12 0 rfl
  rw [il_tab0] at t
  unfold wpX_init
  exact ⟨by omega, by omega, by omega, by omega, by omega, by omega, by omega, by omega, by omega, by omega, by omega, by omega, by omega, by omega, by omega, by omega, by omega, by omega, by omega, by omega, 13, t⟩
end
section
/-- what a sector is due to hold -/
def il_G (x1 x2 x3 x7 x8 x9 x14 x15 z : Int32) : Int32 := if ¬ x15 = 0 ∧ z = x9 then x3 else if ¬ x14 = 0 ∧ z = x8 then x2 else if z = x7 then x1 else 0
/-- a sector that the replay has written -/
def il_M (x8 x9 x14 x15 z : Int32) : Prop := (¬ x14 = 0 ∧ z = x8) ∨ (¬ x15 = 0 ∧ z = x9)
/-- the picture of the medium: check values of what is due; the damaged sector differs by the bits, unless written over -/
def il_P (x1 x2 x3 x5 x7 x8 x9 x10 x14 x15 : Int32) (h c : Nat → Int32) : Prop :=
  ∀ j, j < 12 → c j = il_ck (nI j) (il_G x1 x2 x3 x7 x8 x9 x14 x15 (nI j)) ∧
    (nI j = x10 ∧ ¬ il_M x8 x9 x14 x15 (nI j) → h j = il_G x1 x2 x3 x7 x8 x9 x14 x15 (nI j) ^^^ x5) ∧
    (¬ (nI j = x10 ∧ ¬ il_M x8 x9 x14 x15 (nI j)) → h j = il_G x1 x2 x3 x7 x8 x9 x14 x15 (nI j))
section
variable {x x1 x2 x3 x4 x5 x7 x8 x9 x10 x11 x12 x13 x14 x15 x16 x19 y : Int32}
theorem il_P_good {h c : Nat → Int32} {j : Nat} (p : il_P x1 x2 x3 x5 x7 x8 x9 x10 x14 x15 h c) (hj : j < 12) :
    c j = il_ck (nI j) (h j) ↔ ¬ (nI j = x10 ∧ ¬ x5 = 0 ∧ ¬ il_M x8 x9 x14 x15 (nI j)) := by
  obtain ⟨e, h1, h2⟩ := p j hj
  by_cases m : nI j = x10 ∧ ¬ il_M x8 x9 x14 x15 (nI j)
  · constructor
    · intro g t
      rw [e, h1 m] at g
      exact t.2.1 (il_xz (il_ck_inj g).symm)
    · intro n
      have z : x5 = 0 := Classical.byContradiction (fun z => n ⟨m.1, z, m.2⟩)
      rw [e, h1 m, z, Int32.xor_zero]
  · constructor
    · intro _ t
      exact m ⟨t.1, t.2.2⟩
    · intro _
      rw [e, h2 m]
theorem il_P_val {h c : Nat → Int32} {j : Nat} (p : il_P x1 x2 x3 x5 x7 x8 x9 x10 x14 x15 h c) (hj : j < 12) (g : c j = il_ck (nI j) (h j)) :
    h j = il_G x1 x2 x3 x7 x8 x9 x14 x15 (nI j) := il_ck_inj (g.symm.trans (p j hj).1)
theorem il_G00 (z : Int32) : il_G x1 x2 x3 x7 x8 x9 0 0 z = if z = x7 then x1 else 0 := by
  simp [il_G]
theorem il_M00 (z : Int32) : ¬ il_M x8 x9 0 0 z := by
  simp [il_M]
theorem il_G10 {z : Int32} (n : ¬ z = x8) : il_G x1 x2 x3 x7 x8 x9 1 0 z = il_G x1 x2 x3 x7 x8 x9 0 0 z := by
  simp [il_G, n]
theorem il_M10 {z : Int32} (n : ¬ z = x8) : il_M x8 x9 1 0 z ↔ il_M x8 x9 0 0 z := by
  simp [il_M, n]
theorem il_G11 {z : Int32} (n : ¬ z = x9) : il_G x1 x2 x3 x7 x8 x9 1 1 z = il_G x1 x2 x3 x7 x8 x9 1 0 z := by
  simp [il_G, n]
theorem il_M11 {z : Int32} (n : ¬ z = x9) : il_M x8 x9 1 1 z ↔ il_M x8 x9 1 0 z := by
  simp [il_M, n]
theorem il_ne {i j : Nat} (hi : i < 12) (hj : j < 12) (q : ¬ i = j) : ¬ nI i = nI j := fun z => q ((nI_eq (by omega) (by omega)).mp z)
theorem il_P1 {h c : Nat → Int32} {b : Nat} (hb : b < 12) (p : il_P x1 x2 x3 x5 x7 (nI b) x9 x10 0 0 h c) :
    il_P x1 x2 x3 x5 x7 (nI b) x9 x10 1 0 (upd h b x2) (upd c b (il_ck (nI b) x2)) := by
  intro j hj
  obtain ⟨e, h1, h2⟩ := p j hj
  by_cases q : j = b
  · subst q
    have g : il_G x1 x2 x3 x7 (nI j) x9 1 0 (nI j) = x2 := by simp [il_G]
    have m : il_M (nI j) x9 1 0 (nI j) := Or.inl ⟨by decide, rfl⟩
    rw [pk_us, pk_us, g]
    exact ⟨rfl, fun t => absurd m t.2, fun _ => rfl⟩
  · have n := il_ne hj hb q
    rw [il_G10 n, il_M10 n, pk_un q, pk_un q]
    exact ⟨e, h1, h2⟩
theorem il_P2 {h k : Nat → Int32} {c : Nat} (hc : c < 12) (p : il_P x1 x2 x3 x5 x7 x8 (nI c) x10 1 0 h k) :
    il_P x1 x2 x3 x5 x7 x8 (nI c) x10 1 1 (upd h c x3) (upd k c (il_ck (nI c) x3)) := by
  intro j hj
  obtain ⟨e, h1, h2⟩ := p j hj
  by_cases q : j = c
  · subst q
    have g : il_G x1 x2 x3 x7 x8 (nI j) 1 1 (nI j) = x3 := by simp [il_G]
    have m : il_M x8 (nI j) 1 1 (nI j) := Or.inr ⟨by decide, rfl⟩
    rw [pk_us, pk_us, g]
    exact ⟨rfl, fun t => absurd m t.2, fun _ => rfl⟩
  · have n := il_ne hj hc q
    rw [il_G11 n, il_M11 n, pk_un q, pk_un q]
    exact ⟨e, h1, h2⟩
/-- one write, copied home, on the new medium -/
theorem il_one {a j : Nat} (ha : a < 12) (hj : j < 12) :
    upd (fun _ => 0) a x1 j = (if nI j = nI a then x1 else 0) ∧ upd (il_tab (fun j => il_ck (nI j) 0) 12) a (il_ck (nI a) x1) j = il_ck (nI j) (if nI j = nI a then x1 else 0) := by
  by_cases q : j = a
  · subst q
    rw [pk_us, pk_us, if_pos rfl]
    exact ⟨rfl, rfl⟩
  · rw [pk_un q, pk_un q, if_neg (il_ne hj ha q), il_tab_in hj]
    exact ⟨rfl, rfl⟩
theorem il_P0 {a d : Nat} (ha : a < 12) (hd : d < 12) :
    il_P x1 x2 x3 x5 (nI a) x8 x9 (nI d) 0 0 (upd (upd (fun _ => 0) a x1) d (upd (fun _ => 0) a x1 d ^^^ x5)) (upd (il_tab (fun j => il_ck (nI j) 0) 12) a (il_ck (nI a) x1)) := by
  intro j hj
  obtain ⟨o1, o2⟩ := il_one (x1 := x1) ha hj
  rw [il_G00]
  refine ⟨o2, fun t => ?_, fun t => ?_⟩
  · have q : j = d := (nI_eq (by omega) (by omega)).mp t.1
    subst q
    rw [pk_us, o1]
  · have q : j ≠ d := fun z => t ⟨by rw [z], il_M00 _⟩
    rw [pk_un q, o1]
end
section
variable {hf ns wt md : Int32} {a1 a2 a3 a4 a5 a6 a7 a8 a9 a10 : Nat → Int32} {x x1 x2 x3 x4 x5 x7 x8 x9 x10 x11 x12 x13 x14 x15 x16 x19 y : Int32} {post : Int32 → St0 → Prop} {mc ms kc ks : Nat}
theorem il_586 {z0 z1 : Int32} (e : z1 = z0) (H : post 1 ()) : wL_lawOf_586 post mc ms z0 z1 kc ks hf ns 0 md a1 a2 a3 a4 a5 a6 a7 a8 a9 a10 :=
  br_t e (il_risk (br_t rfl H))
theorem il_569 {z0 : Int32} {d t : Nat} (h0 : z0 = nI t) (ht : t ≤ 1) (hd : d < 12) (hz : ∀ z, z < 12 → z ≠ d → a2 z = il_ck (nI z) (a1 z)) (hg : a2 d = il_ck (nI d) (a1 d) ↔ t = 0)
    (H : post 1 ()) : wL_lawOf_569 post mc ms z0 kc ks x x 0 md a1 a2 a3 a4 a5 a6 a7 a8 a9 a10 := by
  unfold wL_lawOf_569
  refine il_scrub ht hd hz hg ?_
  by_cases e : t = 0
  · subst e
    exact br_t h0 (il_586 rfl H)
  · have e' : t = 1 := by omega
    subst e'
    exact br_f (by rw [h0]; decide) (il_586 rfl H)
theorem il_535 {d : Nat} (hd : d < 12) (p : il_P x1 x2 x3 x5 x7 x8 x9 (nI d) x14 x15 a1 a2) (H : post 1 ()) : wL_lawOf_535 post mc ms x5 x8 x9 (nI d) x14 x15 kc ks x x 0 md a1 a2 a3 a4 a5 a6 a7 a8 a9 a10 := by
  have hz : ∀ z, z < 12 → z ≠ d → a2 z = il_ck (nI z) (a1 z) := fun z h n => (il_P_good p h).mpr (fun t => il_ne h hd n t.1)
  have g := il_P_good p hd
  have K0 : a2 d = il_ck (nI d) (a1 d) → wL_lawOf_568 post mc ms kc ks x x 0 md a1 a2 a3 a4 a5 a6 a7 a8 a9 a10 := by
    intro q
    unfold wL_lawOf_568
    exact il_569 (t := 0) rfl (by omega) hd hz ⟨fun _ => rfl, fun _ => q⟩ H
  have K1 : ¬ a2 d = il_ck (nI d) (a1 d) → wL_lawOf_564 post mc ms kc ks x x 0 md a1 a2 a3 a4 a5 a6 a7 a8 a9 a10 := by
    intro q
    unfold wL_lawOf_564
    exact il_569 (t := 1) rfl (by omega) hd hz ⟨fun z => absurd z q, fun z => absurd z (by omega)⟩ H
  have K2 : ¬ x5 = 0 → ¬ (¬ x14 = 0 ∧ nI d = x8) → wL_lawOf_552 post mc ms x9 (nI d) x15 kc ks x x 0 md a1 a2 a3 a4 a5 a6 a7 a8 a9 a10 := by
    intro h5 n8
    unfold wL_lawOf_552
    exact br_c (fun h15 => K1 (fun q => g.mp q ⟨rfl, h5, fun m => m.elim n8 (fun t => t.1 h15)⟩))
      (fun h15 => br_c (fun e => K0 (g.mpr (fun t => t.2.2 (Or.inr ⟨h15, e⟩)))) (fun e => K1 (fun q => g.mp q ⟨rfl, h5, fun m => m.elim n8 (fun t => e t.2)⟩)))
  unfold wL_lawOf_535
  exact br_c (fun h5 => K0 (g.mpr (fun t => t.2.1 h5))) (fun h5 => br_c (fun h14 => K2 h5 (fun t => t.1 h14))
    (fun h14 => br_c (fun e => K0 (g.mpr (fun t => t.2.2 (Or.inl ⟨h14, e⟩)))) (fun e => K2 h5 (fun t => e t.2))))
theorem il_478 {J : Int32 → Prop} {z0 : Int32} {j : Nat} (hj : j < 12) (h0 : x19 = 0 → a2 j = il_ck (nI j) (a1 j) ∧ a1 j = z0) (h1 : ¬ x19 = 0 → ¬ a2 j = il_ck (nI j) (a1 j))
    (hy : x16 + 1 = y) (HJ : J y) : wL_lawOf_478 post mc ms J x1 x2 x3 x5 x7 x8 x9 x10 x12 x13 x14 x15 x16 (nI j) x19 z0 kc ks x x 0 md a1 a2 a3 a4 a5 a6 a7 a8 a9 a10 := by
  unfold wL_lawOf_478
  refine il_read0 hj (fun g => ?_) (fun g => ?_)
  · have e : x19 = 0 := Classical.byContradiction (fun n => h1 n g)
    exact br_t e (br_t (h0 e).2 (nm_r hy HJ))
  · have e : ¬ x19 = 0 := fun e => g (h0 e).1
    exact br_f e (br_t rfl (nm_r hy HJ))
theorem il_418 {J : Int32 → Prop} {z0 : Int32} {j : Nat} (p : il_P x1 x2 x3 x5 x7 x8 x9 x10 x14 x15 a1 a2) (hj : j < 12) (h0 : z0 = 0 → a2 j = il_ck (nI j) (a1 j)) (h1 : ¬ z0 = 0 → ¬ a2 j = il_ck (nI j) (a1 j))
    (hy : x16 + 1 = y) (HJ : J y) : wL_lawOf_418 post mc ms J x1 x2 x3 x5 x7 x8 x9 x10 x12 x13 x14 x15 x16 (nI j) z0 kc ks x x 0 md a1 a2 a3 a4 a5 a6 a7 a8 a9 a10 := by
  have K : ∀ v, v = il_G x1 x2 x3 x7 x8 x9 x14 x15 (nI j) → wL_lawOf_478 post mc ms J x1 x2 x3 x5 x7 x8 x9 x10 x12 x13 x14 x15 x16 (nI j) z0 v kc ks x x 0 md a1 a2 a3 a4 a5 a6 a7 a8 a9 a10 :=
    fun v e => il_478 hj (fun z => ⟨h0 z, (il_P_val p hj (h0 z)).trans e.symm⟩) h1 hy HJ
  have K3 : ¬ (¬ x15 = 0 ∧ nI j = x9) → ¬ (¬ x14 = 0 ∧ nI j = x8) → wL_lawOf_466 post mc ms J x1 x2 x3 x5 x7 x8 x9 x10 x12 x13 x14 x15 x16 (nI j) z0 kc ks x x 0 md a1 a2 a3 a4 a5 a6 a7 a8 a9 a10 := by
    intro n15 n14
    unfold wL_lawOf_466
    exact br_c (fun e => K _ (by unfold il_G; rw [if_neg n15, if_neg n14, if_pos e])) (fun e => K _ (by unfold il_G; rw [if_neg n15, if_neg n14, if_neg e]))
  have K2 : ¬ (¬ x15 = 0 ∧ nI j = x9) → wL_lawOf_450 post mc ms J x1 x2 x3 x5 x7 x8 x9 x10 x12 x13 x14 x15 x16 (nI j) z0 kc ks x x 0 md a1 a2 a3 a4 a5 a6 a7 a8 a9 a10 := by
    intro n15
    unfold wL_lawOf_450
    exact br_c (fun h14 => K3 n15 (fun t => t.1 h14)) (fun h14 => br_c (fun e => K _ (by unfold il_G; rw [if_neg n15, if_pos ⟨h14, e⟩])) (fun e => K3 n15 (fun t => e t.2)))
  have R : (x15 = 0 → wL_lawOf_450 post mc ms J x1 x2 x3 x5 x7 x8 x9 x10 x12 x13 x14 x15 x16 (nI j) z0 kc ks x x 0 md a1 a2 a3 a4 a5 a6 a7 a8 a9 a10) ∧ (¬ x15 = 0 → ((nI j = x9 → wL_lawOf_478 post mc ms J x1 x2 x3 x5 x7 x8 x9 x10 x12 x13 x14 x15 x16 (nI j) z0 x3 kc ks x x 0 md a1 a2 a3 a4 a5 a6 a7 a8 a9 a10) ∧ (¬ nI j = x9 → wL_lawOf_450 post mc ms J x1 x2 x3 x5 x7 x8 x9 x10 x12 x13 x14 x15 x16 (nI j) z0 kc ks x x 0 md a1 a2 a3 a4 a5 a6 a7 a8 a9 a10))) :=
    br_c (fun h15 => K2 (fun t => t.1 h15)) (fun h15 => br_c (fun e => K _ (by unfold il_G; rw [if_pos ⟨h15, e⟩])) (fun e => K2 (fun t => e t.2)))
  unfold wL_lawOf_418
  refine il_readable0 hj (fun g => br_f (fun e => ?_) R) (fun g => br_f (fun e => g (h0 e.symm)) R)
  exact h1 (by rw [← e]; decide) g
theorem il_394 {J : Int32 → Prop} {z0 : Int32} {j : Nat} (p : il_P x1 x2 x3 x5 x7 x8 x9 x10 x14 x15 a1 a2) (hj : j < 12) (hm : z0 = 0 ↔ ¬ il_M x8 x9 x14 x15 (nI j))
    (hy : x16 + 1 = y) (HJ : J y) : wL_lawOf_394 post mc ms J x1 x2 x3 x5 x7 x8 x9 x10 x12 x13 x14 x15 x16 (nI j) z0 kc ks x x 0 md a1 a2 a3 a4 a5 a6 a7 a8 a9 a10 := by
  have g := il_P_good p hj
  have K0 : a2 j = il_ck (nI j) (a1 j) → wL_lawOf_417 post mc ms J x1 x2 x3 x5 x7 x8 x9 x10 x12 x13 x14 x15 x16 (nI j) kc ks x x 0 md a1 a2 a3 a4 a5 a6 a7 a8 a9 a10 := by
    intro q
    unfold wL_lawOf_417
    exact il_418 p hj (fun _ => q) (fun z => absurd rfl z) hy HJ
  have K1 : ¬ a2 j = il_ck (nI j) (a1 j) → wL_lawOf_418 post mc ms J x1 x2 x3 x5 x7 x8 x9 x10 x12 x13 x14 x15 x16 (nI j) 1 kc ks x x 0 md a1 a2 a3 a4 a5 a6 a7 a8 a9 a10 :=
    fun q => il_418 p hj (fun z => absurd z (by decide)) (fun _ => q) hy HJ
  unfold wL_lawOf_394
  exact br_c (fun e10 => br_c (fun h5 => K0 (g.mpr (fun t => t.2.1 h5))) (fun h5 => br_c (fun hz => K1 (fun q => g.mp q ⟨e10, h5, hm.mp hz⟩)) (fun hz => K0 (g.mpr (fun t => hz (hm.mpr t.2.2))))))
    (fun e10 => K0 (g.mpr (fun t => e10 t.1)))
theorem il_363 {J : Int32 → Prop} {j : Nat} (p : il_P x1 x2 x3 x5 x7 x8 x9 x10 x14 x15 a1 a2) (hj : j < 12) (hy : x16 + 1 = y) (HJ : J y) : wL_lawOf_363 post mc ms J x1 x2 x3 x5 x7 x8 x9 x10 x12 x13 x14 x15 x16 (nI j) kc ks x x 0 md a1 a2 a3 a4 a5 a6 a7 a8 a9 a10 := by
  have K0 : ¬ il_M x8 x9 x14 x15 (nI j) → wL_lawOf_393 post mc ms J x1 x2 x3 x5 x7 x8 x9 x10 x12 x13 x14 x15 x16 (nI j) kc ks x x 0 md a1 a2 a3 a4 a5 a6 a7 a8 a9 a10 := by
    intro m
    unfold wL_lawOf_393
    exact il_394 p hj ⟨fun _ => m, fun _ => rfl⟩ hy HJ
  have K1 : il_M x8 x9 x14 x15 (nI j) → wL_lawOf_389 post mc ms J x1 x2 x3 x5 x7 x8 x9 x10 x12 x13 x14 x15 x16 (nI j) kc ks x x 0 md a1 a2 a3 a4 a5 a6 a7 a8 a9 a10 := by
    intro m
    unfold wL_lawOf_389
    exact il_394 p hj ⟨fun z => absurd z (by decide), fun n => absurd m n⟩ hy HJ
  have K2 : ¬ (¬ x14 = 0 ∧ nI j = x8) → wL_lawOf_377 post mc ms J x1 x2 x3 x5 x7 x8 x9 x10 x12 x13 x14 x15 x16 (nI j) kc ks x x 0 md a1 a2 a3 a4 a5 a6 a7 a8 a9 a10 := by
    intro n8
    unfold wL_lawOf_377
    exact br_c (fun h15 => K0 (fun m => m.elim n8 (fun t => t.1 h15))) (fun h15 => br_c (fun e => K1 (Or.inr ⟨h15, e⟩)) (fun e => K0 (fun m => m.elim n8 (fun t => e t.2))))
  unfold wL_lawOf_363
  exact br_c (fun h14 => K2 (fun t => t.1 h14)) (fun h14 => br_c (fun e => K1 (Or.inl ⟨h14, e⟩)) (fun e => K2 (fun t => e t.2)))
theorem il_323 {a b c d : Nat} (ha : a < 12) (hb : b < 12) (hc : c < 12) (hd : d < 12) (p : il_P x1 x2 x3 x5 (nI a) (nI b) (nI c) (nI d) x14 x15 a1 a2)
    (h12 : x12 = if nI a = nI b then x1 else 0) (h13 : x13 = 0 → x14 = 0 ∧ x15 = 0) (H : post 1 ()) :
    ∃ n, wL_lawOf_323 post mc ms x1 x2 x3 x5 (nI a) (nI b) (nI c) (nI d) x12 x13 x14 x15 kc ks x x 0 md a1 a2 a3 a4 a5 a6 a7 a8 a9 a10 n 0 := by
  have T4 : wL_lawOf_323 post mc ms x1 x2 x3 x5 (nI a) (nI b) (nI c) (nI d) x12 x13 x14 x15 kc ks x x 0 md a1 a2 a3 a4 a5 a6 a7 a8 a9 a10 1 (nI 4) := by
    have L : wL_lawOf_535 post mc ms x5 (nI b) (nI c) (nI d) x14 x15 kc ks x x 0 md a1 a2 a3 a4 a5 a6 a7 a8 a9 a10 := il_535 hd p H
    refine pk_le 4 4 (fun _ => ?_) (fun z => absurd z (by omega))
    refine br_c (fun h => br_c (fun _ => L) (fun e => ?_)) (fun _ => L)
    refine il_read0 hb (fun g => br_t ?_ L) (fun g => absurd ((il_P_good p hb).mpr (fun t => e t.1)) g)
    have v := il_P_val p hb g
    rw [(h13 h).1, (h13 h).2, il_G00] at v
    rw [v, h12]
    by_cases q : nI a = nI b
    · rw [if_pos q, if_pos q.symm]
    · rw [if_neg q, if_neg (fun z => q z.symm)]
  have T3 : wL_lawOf_323 post mc ms x1 x2 x3 x5 (nI a) (nI b) (nI c) (nI d) x12 x13 x14 x15 kc ks x x 0 md a1 a2 a3 a4 a5 a6 a7 a8 a9 a10 2 (nI 3) :=
    br_f (by decide) (br_f (by decide) (br_f (by decide) (br_f (by decide) (il_363 p hd (nI_1 3) T4))))
  have T2 : wL_lawOf_323 post mc ms x1 x2 x3 x5 (nI a) (nI b) (nI c) (nI d) x12 x13 x14 x15 kc ks x x 0 md a1 a2 a3 a4 a5 a6 a7 a8 a9 a10 3 (nI 2) :=
    br_f (by decide) (br_f (by decide) (br_f (by decide) (br_t rfl (il_363 p hc (nI_1 2) T3))))
  have T1 : wL_lawOf_323 post mc ms x1 x2 x3 x5 (nI a) (nI b) (nI c) (nI d) x12 x13 x14 x15 kc ks x x 0 md a1 a2 a3 a4 a5 a6 a7 a8 a9 a10 4 (nI 1) :=
    br_f (by decide) (br_f (by decide) (br_t rfl (il_363 p hb (nI_1 1) T2)))
  have T0 : wL_lawOf_323 post mc ms x1 x2 x3 x5 (nI a) (nI b) (nI c) (nI d) x12 x13 x14 x15 kc ks x x 0 md a1 a2 a3 a4 a5 a6 a7 a8 a9 a10 5 (nI 0) :=
    br_f (by decide) (br_t rfl (il_363 p ha (nI_1 0) T1))
  exact ⟨5, T0⟩
end
end
section
section
variable {hf ns wt md : Int32} {a1 a2 a3 a4 a5 a6 a7 a8 a9 a10 : Nat → Int32} {x x1 x2 x3 x4 x5 x7 x8 x9 x10 x11 x12 x13 x14 x15 x16 x19 y : Int32} {post : Int32 → St0 → Prop} {mc ms kc ks : Nat}
theorem il_256_0 {a b c d : Nat} (ha : a < 12) (hb : b < 12) (hc : c < 12) (hd : d < 12) (hk : il_kp x4 0) (p : il_P x1 x2 x3 x5 (nI a) (nI b) (nI c) (nI d) 0 0 a1 a2)
    (h12 : x12 = if nI a = nI b then x1 else 0) (H : post 1 ()) : wL_lawOf_256 post mc ms x1 x2 x3 x4 x5 (nI a) (nI b) (nI c) (nI d) x12 (nI 0) kc ks (nI 1) (nI 1) (nI 2) (nI 1) a1 a2 a3 a4 a5 a6 a7 a8 a9 a10 := by
  unfold wL_lawOf_256
  refine il_crash0 hk (fun e3 e4 e5 e6 e7 e8 => ?_)
  refine br_t (by decide) (br_t rfl (br_t (by decide) (br_t (by decide) (br_f (by decide) ?_))))
  exact il_323 ha hb hc hd p h12 (fun _ => ⟨rfl, rfl⟩) H
theorem il_256_1 {a b c d : Nat} (ha : a < 12) (hb : b < 12) (hc : c < 12) (hd : d < 12) (hk : il_kp x4 1) (p : il_P x1 x2 x3 x5 (nI a) (nI b) (nI c) (nI d) 0 0 a1 a2)
    (h9 : a9 0 = nI b) (h10 : a10 0 = x2)
    (h12 : x12 = if nI a = nI b then x1 else 0) (H : post 1 ()) : wL_lawOf_256 post mc ms x1 x2 x3 x4 x5 (nI a) (nI b) (nI c) (nI d) x12 (nI 1) kc ks (nI 1) (nI 1) (nI 2) (nI 1) a1 a2 a3 a4 a5 a6 a7 a8 a9 a10 := by
  unfold wL_lawOf_256
  refine il_crash1 hk hb h9 (fun e3 e4 e5 e6 e7 e8 => ?_)
  refine br_t (by decide) (br_t rfl (br_t (by decide) (br_f (by decide) (br_f (by decide) ?_))))
  rw [h10]
  exact il_323 ha hb hc hd (il_P1 hb p) h12 (fun z => absurd z (by decide)) H
theorem il_256_2 {a b c d : Nat} (ha : a < 12) (hb : b < 12) (hc : c < 12) (hd : d < 12) (hk : il_kp x4 2) (p : il_P x1 x2 x3 x5 (nI a) (nI b) (nI c) (nI d) 0 0 a1 a2)
    (h9 : a9 0 = nI b) (h9' : a9 1 = nI c) (h10 : a10 0 = x2) (h10' : a10 1 = x3) (h3 : ¬ a3 2 = nI 2)
    (h12 : x12 = if nI a = nI b then x1 else 0) (H : post 1 ()) : wL_lawOf_256 post mc ms x1 x2 x3 x4 x5 (nI a) (nI b) (nI c) (nI d) x12 (nI 2) kc ks (nI 1) (nI 1) (nI 2) (nI 1) a1 a2 a3 a4 a5 a6 a7 a8 a9 a10 := by
  unfold wL_lawOf_256
  refine il_crash2 hk hb hc h9 h9' h3 (fun e3 e4 e5 e6 e7 e8 => ?_)
  refine br_t (by decide) (br_t rfl (br_t (by decide) (br_f (by decide) (br_t (by decide) ?_))))
  rw [h10, h10']
  exact il_323 ha hb hc hd (il_P2 hc (il_P1 hb p)) h12 (fun z => absurd z (by decide)) H
theorem il_235k {k : Nat} (h : il_kp x4 k) (H : wL_lawOf_256 post mc ms x1 x2 x3 x4 x5 x7 x8 x9 x10 x12 (nI k) kc ks hf ns wt md a1 a2 a3 a4 a5 a6 a7 a8 a9 a10) : wL_lawOf_235 post mc ms x1 x2 x3 x4 x5 x7 x8 x9 x10 x12 kc ks hf ns wt md a1 a2 a3 a4 a5 a6 a7 a8 a9 a10 := by
  unfold wL_lawOf_235
  rcases h with ⟨h0, h2, e, _⟩ | ⟨h0, h2, e⟩ | ⟨h0, e⟩
  · rw [← e] at H
    exact br_t h0 (br_t h2 H)
  · rw [e] at H
    exact br_t h0 (br_f h2 H)
  · rw [e] at H
    exact br_f h0 H
theorem il_235 {a b c d : Nat} (ha : a < 12) (hb : b < 12) (hc : c < 12) (hd : d < 12) (p : il_P x1 x2 x3 x5 (nI a) (nI b) (nI c) (nI d) 0 0 a1 a2)
    (h9 : a9 0 = nI b) (h9' : a9 1 = nI c) (h10 : a10 0 = x2) (h10' : a10 1 = x3) (h3 : ¬ a3 2 = nI 2)
    (h12 : x12 = if nI a = nI b then x1 else 0) (H : post 1 ()) : wL_lawOf_235 post mc ms x1 x2 x3 x4 x5 (nI a) (nI b) (nI c) (nI d) x12 kc ks (nI 1) (nI 1) (nI 2) (nI 1) a1 a2 a3 a4 a5 a6 a7 a8 a9 a10 := by
  obtain ⟨k, hk⟩ := il_kp_ex x4
  refine il_235k hk ?_
  have k2 := il_kp_le hk
  rcases k with _ | _ | _ | k
  · exact il_256_0 ha hb hc hd hk p h12 H
  · exact il_256_1 ha hb hc hd hk p h9 h10 h12 H
  · exact il_256_2 ha hb hc hd hk p h9 h9' h10 h10' h3 h12 H
  · exact absurd k2 (by omega)
theorem il_182 {a b c d : Nat} (ha : a < 12) (hb : b < 12) (hc : c < 12) (hd : d < 12) (p : il_P x1 x2 x3 x5 (nI a) (nI b) (nI c) (nI d) 0 0 a1 a2)
    (h9 : a9 0 = nI b) (h9' : a9 1 = nI c) (h10 : a10 0 = x2) (h10' : a10 1 = x3) (h3 : ¬ a3 2 = nI 2) (h11 : x11 = 0 → x5 = 0 ∨ nI d = nI b ∨ nI d = nI c)
    (h12 : x12 = if nI a = nI b then x1 else 0) (H : post 1 ()) : wL_lawOf_182 post mc ms x1 x2 x3 x4 x5 (nI a) (nI b) (nI c) (nI d) x11 x12 kc ks (nI 1) (nI 1) (nI 2) (nI 1) a1 a2 a3 a4 a5 a6 a7 a8 a9 a10 := by
  have K : wL_lawOf_235 post mc ms x1 x2 x3 x4 x5 (nI a) (nI b) (nI c) (nI d) x12 kc ks (nI 1) (nI 1) (nI 2) (nI 1) a1 a2 a3 a4 a5 a6 a7 a8 a9 a10 := il_235 ha hb hc hd p h9 h9' h10 h10' h3 h12 H
  unfold wL_lawOf_182
  refine br_c (fun z11 => ?_) (fun _ => K)
  refine il_read2 hd (fun e => ?_) (fun e1 e0 => ?_) (fun e1 e0 g => ?_) (fun e1 e0 g => ?_)
  · rw [h9'] at e
    exact br_t e.symm (br_t h10' K)
  · rw [h9'] at e1
    rw [h9] at e0
    exact br_f (fun z => e1 z.symm) (br_t e0.symm (br_t h10 K))
  · rw [h9'] at e1
    rw [h9] at e0
    have v := il_P_val p hd g
    rw [il_G00] at v
    exact br_f (fun z => e1 z.symm) (br_f (fun z => e0 z.symm) (br_c (fun e => br_t (by rw [v, if_pos e]) K) (fun e => br_t (by rw [v, if_neg e]) K)))
  · rw [h9'] at e1
    rw [h9] at e0
    refine absurd ((il_P_good p hd).mpr (fun t => ?_)) g
    rcases h11 z11 with z | z | z
    · exact t.2.1 z
    · exact e0 z.symm
    · exact e1 z.symm
theorem il_154 {z0 : Int32} {a b c d : Nat} (ha : a < 12) (hb : b < 12) (hc : c < 12) (hd : d < 12) (p : il_P x1 x2 x3 x5 (nI a) (nI b) (nI c) (nI d) 0 0 a1 a2)
    (h9 : a9 0 = nI b) (h9' : a9 1 = nI c) (h10 : a10 0 = x2) (h10' : a10 1 = x3) (h3 : ¬ a3 2 = nI 2) (h11 : z0 = 0 → x5 = 0 ∨ nI d = nI b ∨ nI d = nI c)
    (h11' : ¬ z0 = 0 → ¬ x5 = 0 ∧ ¬ nI d = nI b ∧ ¬ nI d = nI c) (H : post 1 ()) : wL_lawOf_154 post mc ms x1 x2 x3 x4 x5 (nI a) (nI b) (nI c) (nI d) z0 kc ks (nI 1) (nI 1) (nI 2) (nI 1) a1 a2 a3 a4 a5 a6 a7 a8 a9 a10 := by
  have R : (nI a = nI b → wL_lawOf_182 post mc ms x1 x2 x3 x4 x5 (nI a) (nI b) (nI c) (nI d) z0 x1 kc ks (nI 1) (nI 1) (nI 2) (nI 1) a1 a2 a3 a4 a5 a6 a7 a8 a9 a10) ∧ (¬ nI a = nI b → wL_lawOf_182 post mc ms x1 x2 x3 x4 x5 (nI a) (nI b) (nI c) (nI d) z0 0 kc ks (nI 1) (nI 1) (nI 2) (nI 1) a1 a2 a3 a4 a5 a6 a7 a8 a9 a10) :=
    br_c (fun e => il_182 ha hb hc hd p h9 h9' h10 h10' h3 h11 (by rw [if_pos e]) H) (fun e => il_182 ha hb hc hd p h9 h9' h10 h10' h3 h11 (by rw [if_neg e]) H)
  unfold wL_lawOf_154
  refine il_readable2 hd (fun e => br_f (fun z => ?_) R) (fun e1 e0 g => br_f (fun z => ?_) R) (fun e1 e0 g => br_f (fun z => ?_) R)
  · have n := h11' (by rw [← z]; decide)
    rw [h9, h9'] at e
    rcases e with e | e
    · exact n.2.2 e.symm
    · exact n.2.1 e.symm
  · have n := h11' (by rw [← z]; decide)
    exact (il_P_good p hd).mp g ⟨rfl, n.1, il_M00 _⟩
  · rw [h9'] at e1
    rw [h9] at e0
    refine g ((il_P_good p hd).mpr (fun t => ?_))
    rcases h11 z.symm with q | q | q
    · exact t.2.1 q
    · exact e0 q.symm
    · exact e1 q.symm
theorem il_99 {z0 z1 : Int32} {a b c d : Nat} (ha : a < 12) (hb : b < 12) (hc : c < 12) (hd : d < 12) (p : il_P x1 x2 x3 x5 (nI a) (nI b) (nI c) (nI d) 0 0 a1 a2)
    (h3 : ¬ a3 2 = nI 2) (e : z1 = z0) (H : post 1 ()) : wL_lawOf_99 post mc ms x1 x2 x3 x4 x5 (nI a) (nI b) (nI c) (nI d) z0 z1 kc ks (nI 1) (nI 1) (nI 0) (nI 1) a1 a2 a3 a4 a5 a6 a7 a8 a9 a10 := by
  have q9 : upd (upd a9 0 (nI b)) 1 (nI c) 0 = nI b := by rw [pk_un (by omega), pk_us]
  have q10 : upd (upd a10 0 x2) 1 x3 0 = x2 := by rw [pk_un (by omega), pk_us]
  unfold wL_lawOf_99
  refine br_t e (il_write (w := 0) (by omega) hb ?_)
  refine br_t rfl (il_write (w := 1) (by omega) hc ?_)
  refine br_t rfl ?_
  have K0 : x5 = 0 ∨ nI d = nI b ∨ nI d = nI c → wL_lawOf_153 post mc ms x1 x2 x3 x4 x5 (nI a) (nI b) (nI c) (nI d) kc ks (nI 1) (nI 1) (nI 2) (nI 1) a1 a2 a3 a4 a5 a6 a7 a8 (upd (upd a9 0 (nI b)) 1 (nI c)) (upd (upd a10 0 x2) 1 x3) := by
    intro q
    unfold wL_lawOf_153
    exact il_154 ha hb hc hd p q9 pk_us q10 pk_us h3 (fun _ => q) (fun z => absurd rfl z) H
  refine br_c (fun h5 => K0 (Or.inl h5)) (fun h5 => br_c (fun h8 => K0 (Or.inr (Or.inl h8))) (fun h8 => br_c (fun h9 => K0 (Or.inr (Or.inr h9))) (fun h9 => ?_)))
  exact il_154 ha hb hc hd p q9 pk_us q10 pk_us h3 (fun z => absurd z (by decide)) (fun _ => ⟨h5, h8, h9⟩) H
end
theorem il_lawOf (post : Int32 → St0 → Prop) (p0 p1 p2 p3 p4 p5 : Int32) (H : post 1 ()) : wpL_lawOf post 11 198 () p0 p1 p2 p3 p4 p5 := by
  obtain ⟨a, ha, ea⟩ := il_m12 p0 (m := 255) 8 (by decide) (by omega)
  obtain ⟨b, hb, eb⟩ := il_m12 (p0 >>> ((8 : Int32) &&& 31)) (m := 255) 8 (by decide) (by omega)
  obtain ⟨c, hc, ec⟩ := il_m12 (p0 >>> ((16 : Int32) &&& 31)) (m := 255) 8 (by decide) (by omega)
  obtain ⟨d, hd, ed⟩ := il_m12 (p0 >>> ((24 : Int32) &&& 31)) (m := 127) 7 (by decide) (by omega)
  unfold wpL_lawOf
  refine ⟨by omega, by omega, 10, 184, by omega, by omega, il_init ?_⟩
  refine And.intro (by decide) (nm_r ea (And.intro (by decide) (nm_r eb (And.intro (by decide) (nm_r ec (And.intro (by decide) (nm_r ed ?_)))))))
  refine il_write (w := 0) (by omega) ha ?_
  refine br_t rfl (il_flush (fun s => ?_))
  have e6 : il_fl (fun _ => 0) (upd (fun _ => 0) 0 (nI a)) 0 0 1 0 = nI a := (il_fl_in (b := 0) (f := 0) (i := 0) (by omega)).trans pk_us
  have e7 : il_fl (fun _ => 0) (upd (fun _ => 0) 0 p1) 0 0 1 0 = p1 := (il_fl_in (b := 0) (f := 0) (i := 0) (by omega)).trans pk_us
  have e8 : il_fl (fun _ => 0) (fun j => il_ck (upd (fun _ => 0) 0 (nI a) j) (upd (fun _ => 0) 0 p1 j)) 0 0 1 0 = il_ck (nI a) p1 := il_fl_in (b := 0) (f := 0) (i := 0) (by omega)
  have hg : upd (il_tab (fun j => il_ck (nI j) 0) 12) a (il_ck (nI a) p1) d = il_ck (nI d) (upd (fun _ => 0) a p1 d) := by
    obtain ⟨o1, o2⟩ := il_one (x1 := p1) ha hd
    rw [o1, o2]
  have h3 : ¬ upd (il_tab (fun _ => -1) 8) 0 (nI 0) 2 = nI 2 := by
    rw [pk_un (by omega), il_tab_in (by omega)]
    decide
  refine br_t rfl (il_damage (h := upd (fun _ => 0) a p1) (c := upd (il_tab (fun j => il_ck (nI j) 0) 12) a (il_ck (nI a) p1)) pk_us ⟨a, ha, e6⟩ hd ?_ ?_ hg (fun z => ?_) (fun z => ?_))
  · rw [e6, e7, nI_clamp (by omega)]
  · rw [e6, e8, nI_clamp (by omega)]
  · exact br_t z (il_99 ha hb hc hd (il_P0 ha hd) h3 rfl H)
  · exact br_f z (il_99 ha hb hc hd (il_P0 ha hd) h3 rfl H)
theorem il_cell {post : Int32 → Prop} {L : Nat} {xs : Nat → Int32} {u : St0} (hL : L ≤ 6) (i : Nat) (hi : i < 6) (H : ∀ r, post r) : wpL_cellAt post L xs u (nI i) :=
  pk_le L i (fun _ => H 0) (fun z => ⟨pk_in i L z, H _⟩)
end
section
theorem i_vc (xs : Nat → Int32) (L : Nat) (hL : L ≤ 6) : wpL_law (fun r => r = 1) L xs := by
  unfold wpL_law
  exact il_cell hL 0 (by omega) (fun r1 => il_cell hL 1 (by omega) (fun r2 => il_cell hL 2 (by omega) (fun r3 => il_cell hL 3 (by omega) (fun r4 => il_cell hL 4 (by omega) (fun r5 => il_cell hL 5 (by omega) (fun r6 =>
    ⟨11, 198, by omega, by omega, il_lawOf _ r1 r2 r3 r4 r5 r6 rfl⟩))))))
end
