section
/-! the bits of the walk's mask; the law's numbers; the calls that make the graph, and the questions -/
theorem rl_bit (p : Nat) (hp : p < 4) (q : Nat) (hq : q < 7) (r : Nat) (hr : r < 10) (hp' : 1 ≤ p) (hq' : 4 ≤ q) (hr' : 7 ≤ r) :
    ((((1 : Int32) >>> (nI p &&& 31)) &&& 1) = 0 ∧
    ((((1 : Int32) ||| ((1 : Int32) <<< (nI p &&& 31))) >>> (nI q &&& 31)) &&& 1) = 0 ∧
    (¬ (((((1 : Int32) ||| ((1 : Int32) <<< (nI p &&& 31))) ||| ((1 : Int32) <<< (nI q &&& 31))) >>> (nI q &&& 31)) &&& 1) = 0) ∧
    (¬ (((((1 : Int32) ||| ((1 : Int32) <<< (nI p &&& 31))) ||| ((1 : Int32) <<< (nI q &&& 31))) >>> (nI 0 &&& 31)) &&& 1) = 0) ∧
    (((((1 : Int32) ||| ((1 : Int32) <<< (nI p &&& 31))) ||| ((1 : Int32) <<< (nI q &&& 31))) >>> (nI r &&& 31)) &&& 1) = 0) := by
  rcases (show p = 1 ∨ p = 2 ∨ p = 3 by omega) with rfl | rfl | rfl <;> rcases (show q = 4 ∨ q = 5 ∨ q = 6 by omega) with rfl | rfl | rfl <;> rcases (show r = 7 ∨ r = 8 ∨ r = 9 by omega) with rfl | rfl | rfl <;> decide +kernel
theorem rl_num60 (x : Int32) : ∃ n : Nat, n < 60 ∧ (x &&& 2147483647) - (x &&& 2147483647) / 60 * 60 = nI n := by
  obtain ⟨j, hj, e⟩ := pk_andE x (m := 2147483647) 31 (by decide)
  refine ⟨j % 60, Nat.mod_lt _ (by decide), ?_⟩
  rw [e]
  exact pk_rem (d := 60) hj (by decide) (by decide)
theorem rl_num4 (x : Int32) : ∃ m : Nat, 1 ≤ m ∧ m ≤ 4 ∧ 1 + (x &&& 3) = nI m := by
  obtain ⟨j, hj, e⟩ := pk_andE x (m := 3) 2 (by decide)
  have hj' : j < 4 := hj
  refine ⟨1 + j, by omega, by omega, ?_⟩
  rw [e]
  exact nI_add 1 j
theorem rl_num3 (x : Int32) : ∃ p : Nat, 1 ≤ p ∧ p < 4 ∧ 1 + ((x &&& 2147483647) - (x &&& 2147483647) / 3 * 3) = nI p := by
  obtain ⟨j, hj, e⟩ := pk_andE x (m := 2147483647) 31 (by decide)
  have hm : j % 3 < 3 := Nat.mod_lt _ (by decide)
  refine ⟨1 + j % 3, by omega, by omega, ?_⟩
  rw [e, ← nI_add]
  exact congrArg (fun t => nI 1 + t) (pk_rem (d := 3) hj (by decide) (by decide))
theorem rl_num255 (x : Int32) (c : Nat) : ∃ p : Nat, c ≤ p ∧ p < c + 3 ∧ nI c + ((x &&& 255) - (x &&& 255) / 3 * 3) = nI p := by
  obtain ⟨j, hj, e⟩ := pk_andE x (m := 255) 8 (by decide)
  have hj' : j < 256 := hj
  have hm : j % 3 < 3 := Nat.mod_lt _ (by decide)
  refine ⟨c + j % 3, by omega, by omega, ?_⟩
  rw [e, ← nI_add]
  exact congrArg (fun t => nI c + t) (pk_rem (d := 3) (by omega) (by decide) (by decide))
theorem rl_bad {post : Int32 → Prop} {u : St0} {b : Nat} (hb : b < 10) (h : post 0) : wpX_bad post u (nI b) :=
  br_f (nI_pos (by omega)) (br_t (nI_lt (b := 10) hb (by decide)) h)
theorem rl_badVar {post : Int32 → Prop} {u : St0} {b : Nat} (hb : b ≤ 3) (h : post 0) : wpX_badVar post u (nI b) :=
  br_f (nI_pos (by omega)) (br_t (nI_le (b := 3) hb (by decide)) h)
theorem rl_as49 {fr fc fl fn fb fe fd fw : Int32} {a1 a2 a3 a4 a5 a6 a7 a8 a9 a10 a11 a12 a13 a14 a15 a16 a17 a18 a19 : Nat → Int32} {post : Int32 → St2 → Prop} {b s : Nat} {x2 x3 x4 : Int32} (hb : b < 10) (hs : s < 3) (e : a1 b = nI s)
    (H : ∀ x b1 b2 b3 b4, b1 = upd a1 b (nI (s + 1)) → b2 = upd a2 (b * 3 + s) x2 → b3 = upd a3 (b * 3 + s) x3 → b4 = upd a4 (b * 3 + s) x4 → post x (fr, fc, fl, fn, fb, fe, fd, fw, b1, b2, b3, b4, a5, a6, a7, a8, a9, a10, a11, a12, a13, a14, a15, a16, a17, a18, a19)) :
    wX_assign_49 post (nI b) x2 x3 x4 fr fc fl fn fb fe fd fw a1 a2 a3 a4 a5 a6 a7 a8 a9 a10 a11 a12 a13 a14 a15 a16 a17 a18 a19 := by
  have hi : vp_in (nI b) 10 := vp_in_nI hb (by decide)
  have hc : (nI b).toNatClampNeg = b := nI_clamp (by omega)
  have e' : a1 (nI b).toNatClampNeg = nI s := by rw [hc, e]
  have h5 : nI b * 3 + a1 (nI b).toNatClampNeg = nI (b * 3 + s) := by
    rw [e', show (3 : Int32) = nI 3 from rfl, pk_mul, nI_add]
  have hi5 : vp_in (nI (b * 3 + s)) 30 := vp_in_nI (by omega) (by decide)
  have hc5 : (nI (b * 3 + s)).toNatClampNeg = b * 3 + s := nI_clamp (by omega)
  unfold wX_assign_49
  refine ⟨hi, br_t (by rw [e']; exact nI_lt (b := 3) hs (by decide)) ⟨hi, nm_r h5 ?_⟩⟩
  exact ⟨hi5, fun b2 e2 => ⟨hi5, fun b3 e3 => ⟨hi5, fun b4 e4 => ⟨hi, hi, fun b1 e1 => ⟨hi, H _ _ _ _ _ (by rw [e1, hc, e, nI_1]) (by rw [e2, hc5]) (by rw [e3, hc5]) (by rw [e4, hc5])⟩⟩⟩⟩⟩
theorem rl_assign {fr fc fl fn fb fe fd fw : Int32} {a1 a2 a3 a4 a5 a6 a7 a8 a9 a10 a11 a12 a13 a14 a15 a16 a17 a18 a19 : Nat → Int32} {post : Int32 → St2 → Prop} (b o v s : Nat) {w : Int32} (hb : b < 10) (ho : o ≤ 5) (hv : v ≤ 3) (hs : s < 3) (e : a1 b = nI s) (hw : 1 ≤ o → o ≤ 3 → ∃ k, k ≤ 3 ∧ w = nI k)
    (H : ∀ x b1 b2 b3 b4, b1 = upd a1 b (nI (s + 1)) → b2 = upd a2 (b * 3 + s) (nI o) → b3 = upd a3 (b * 3 + s) (nI v) → b4 = upd a4 (b * 3 + s) w → post x (fr, fc, fl, fn, fb, fe, fd, fw, b1, b2, b3, b4, a5, a6, a7, a8, a9, a10, a11, a12, a13, a14, a15, a16, a17, a18, a19)) :
    wpX_assign post (fr, fc, fl, fn, fb, fe, fd, fw, a1, a2, a3, a4, a5, a6, a7, a8, a9, a10, a11, a12, a13, a14, a15, a16, a17, a18, a19) (nI b) (nI o) (nI v) w := by
  have K : wX_assign_49 post (nI b) (nI o) (nI v) w fr fc fl fn fb fe fd fw a1 a2 a3 a4 a5 a6 a7 a8 a9 a10 a11 a12 a13 a14 a15 a16 a17 a18 a19 := rl_as49 hb hs e H
  unfold wpX_assign
  dsimp only
  refine rl_bad hb (br_t rfl (br_f (nI_pos (by omega)) (br_t (nI_le (b := 5) ho (by decide)) (rl_badVar hv (br_t rfl ?_)))))
  refine pk_lt o 1 (fun _ => K) (fun h1 => pk_lt 3 o (fun _ => K) (fun h3 => ?_))
  obtain ⟨k, hk, rfl⟩ := hw h1 h3
  exact rl_badVar hk (br_t rfl K)
theorem rl_setEnd {fr fc fl fn fb fe fd fw : Int32} {a1 a2 a3 a4 a5 a6 a7 a8 a9 a10 a11 a12 a13 a14 a15 a16 a17 a18 a19 : Nat → Int32} {post : St2 → Prop} {b : Nat} {x1 x2 x3 : Int32} (hb : b < 10)
    (H : ∀ b5 b6 b7, b5 = upd a5 b x1 → b6 = upd a6 b x2 → b7 = upd a7 b x3 → post (0, fc, fl, fn, fb, fe, fd, fw, a1, a2, a3, a4, b5, b6, b7, a8, a9, a10, a11, a12, a13, a14, a15, a16, a17, a18, a19)) :
    wpX_setEnd post (fr, fc, fl, fn, fb, fe, fd, fw, a1, a2, a3, a4, a5, a6, a7, a8, a9, a10, a11, a12, a13, a14, a15, a16, a17, a18, a19) (nI b) x1 x2 x3 := by
  have hi : vp_in (nI b) 10 := vp_in_nI hb (by decide)
  have hc : (nI b).toNatClampNeg = b := nI_clamp (by omega)
  unfold wpX_setEnd
  dsimp only
  exact ⟨hi, fun b5 e5 => ⟨hi, fun b6 e6 => ⟨hi, fun b7 e7 => H _ _ _ (by rw [e5, hc]) (by rw [e6, hc]) (by rw [e7, hc])⟩⟩⟩
theorem rl_branch {fr fc fl fn fb fe fd fw : Int32} {a1 a2 a3 a4 a5 a6 a7 a8 a9 a10 a11 a12 a13 a14 a15 a16 a17 a18 a19 : Nat → Int32} {post : Int32 → St2 → Prop} (b v t u : Nat) (hb : b < 10) (hv : v ≤ 3) (ht : t < 10) (hu : u < 10)
    (H : ∀ b5 b6 b7, b5 = upd a5 b (nI v) → b6 = upd a6 b (nI t) → b7 = upd a7 b (nI u) → post 0 (0, fc, fl, fn, fb, fe, fd, fw, a1, a2, a3, a4, b5, b6, b7, a8, a9, a10, a11, a12, a13, a14, a15, a16, a17, a18, a19)) :
    wpX_branch post (fr, fc, fl, fn, fb, fe, fd, fw, a1, a2, a3, a4, a5, a6, a7, a8, a9, a10, a11, a12, a13, a14, a15, a16, a17, a18, a19) (nI b) (nI v) (nI t) (nI u) := by
  unfold wpX_branch
  dsimp only
  exact rl_bad hb (br_t rfl (rl_bad ht (br_t rfl (rl_bad hu (br_t rfl (rl_badVar hv (br_t rfl (rl_setEnd hb H))))))))
theorem rl_go {fr fc fl fn fb fe fd fw : Int32} {a1 a2 a3 a4 a5 a6 a7 a8 a9 a10 a11 a12 a13 a14 a15 a16 a17 a18 a19 : Nat → Int32} {post : Int32 → St2 → Prop} (b t : Nat) (hb : b < 10) (ht : t < 10)
    (H : ∀ b5 b6 b7, b5 = upd a5 b (-1) → b6 = upd a6 b (nI t) → b7 = upd a7 b (-1) → post 0 (0, fc, fl, fn, fb, fe, fd, fw, a1, a2, a3, a4, b5, b6, b7, a8, a9, a10, a11, a12, a13, a14, a15, a16, a17, a18, a19)) :
    wpX_go post (fr, fc, fl, fn, fb, fe, fd, fw, a1, a2, a3, a4, a5, a6, a7, a8, a9, a10, a11, a12, a13, a14, a15, a16, a17, a18, a19) (nI b) (nI t) := by
  unfold wpX_go
  dsimp only
  exact rl_bad hb (br_t rfl (rl_bad ht (br_t rfl (rl_setEnd hb H))))
theorem rl_stop {fr fc fl fn fb fe fd fw : Int32} {a1 a2 a3 a4 a5 a6 a7 a8 a9 a10 a11 a12 a13 a14 a15 a16 a17 a18 a19 : Nat → Int32} {post : Int32 → St2 → Prop} (b : Nat) (hb : b < 10)
    (H : ∀ b5 b6 b7, b5 = upd a5 b (-1) → b6 = upd a6 b (-1) → b7 = upd a7 b (-1) → post 0 (0, fc, fl, fn, fb, fe, fd, fw, a1, a2, a3, a4, b5, b6, b7, a8, a9, a10, a11, a12, a13, a14, a15, a16, a17, a18, a19)) :
    wpX_stop post (fr, fc, fl, fn, fb, fe, fd, fw, a1, a2, a3, a4, a5, a6, a7, a8, a9, a10, a11, a12, a13, a14, a15, a16, a17, a18, a19) (nI b) := by
  unfold wpX_stop
  dsimp only
  exact rl_bad hb (br_t rfl (rl_setEnd hb H))
theorem rl_set {fr fc fl fn fb fe fd fw : Int32} {a1 a2 a3 a4 a5 a6 a7 a8 a9 a10 a11 a12 a13 a14 a15 a16 a17 a18 a19 : Nat → Int32} {post : Int32 → St2 → Prop} (v : Nat) {x : Int32} (hv : v ≤ 3)
    (H : ∀ b17, b17 = upd a17 v x → post 0 (fr, fc, fl, fn, fb, fe, fd, fw, a1, a2, a3, a4, a5, a6, a7, a8, a9, a10, a11, a12, a13, a14, a15, a16, b17, a18, a19)) : wpX_set post (fr, fc, fl, fn, fb, fe, fd, fw, a1, a2, a3, a4, a5, a6, a7, a8, a9, a10, a11, a12, a13, a14, a15, a16, a17, a18, a19) (nI v) x := by
  have hc : (nI v).toNatClampNeg = v := nI_clamp (by omega)
  unfold wpX_set
  dsimp only
  exact rl_badVar hv (br_t rfl ⟨vp_in_nI (by omega) (by decide), fun b17 e17 => H _ (by rw [e17, hc])⟩)
theorem rl_get {fr fc fl fn fb fe fd fw : Int32} {a1 a2 a3 a4 a5 a6 a7 a8 a9 a10 a11 a12 a13 a14 a15 a16 a17 a18 a19 : Nat → Int32} {post : Int32 → Prop} (v : Nat) (hv : v ≤ 3) (h : post (a17 v)) : wpX_get post (fr, fc, fl, fn, fb, fe, fd, fw, a1, a2, a3, a4, a5, a6, a7, a8, a9, a10, a11, a12, a13, a14, a15, a16, a17, a18, a19) (nI v) := by
  have hc : (nI v).toNatClampNeg = v := nI_clamp (by omega)
  unfold wpX_get
  dsimp only
  exact rl_badVar hv (br_t rfl ⟨vp_in_nI (by omega) (by decide), by rw [hc]; exact h⟩)
theorem rl_visits {fr fc fl fn fb fe fd fw : Int32} {a1 a2 a3 a4 a5 a6 a7 a8 a9 a10 a11 a12 a13 a14 a15 a16 a17 a18 a19 : Nat → Int32} {post : Int32 → Prop} (b : Nat) (hb : b < 10) (h : post (a18 b)) : wpX_visits post (fr, fc, fl, fn, fb, fe, fd, fw, a1, a2, a3, a4, a5, a6, a7, a8, a9, a10, a11, a12, a13, a14, a15, a16, a17, a18, a19) (nI b) := by
  have hc : (nI b).toNatClampNeg = b := nI_clamp (by omega)
  unfold wpX_visits
  dsimp only
  exact rl_bad hb (br_t rfl ⟨vp_in_nI (by omega) (by decide), by rw [hc]; exact h⟩)
theorem rl_output {fr fc fl fn fb fe fd : Int32} {a1 a2 a3 a4 a5 a6 a7 a8 a9 a10 a11 a12 a13 a14 a15 a16 a17 a18 a19 : Nat → Int32} {post : Int32 → Prop} (k w j : Nat) (hk : k ≤ 15) (hw : w < 1000) (hj : j + k + 1 = w) (h : post (a19 (j % 16))) : wpX_output post (fr, fc, fl, fn, fb, fe, fd, (nI w), a1, a2, a3, a4, a5, a6, a7, a8, a9, a10, a11, a12, a13, a14, a15, a16, a17, a18, a19) (nI k) := by
  have e : ((nI w - 1) - nI k) &&& 15 = nI (j % 16) := by
    rw [show (1 : Int32) = nI 1 from rfl, pk_sub (by omega), pk_sub (by omega), show w - 1 - k = j by omega]
    exact pk_andN (n := j) (by omega) 4 (by decide)
  unfold wpX_output
  dsimp only
  refine br_f (nI_pos (by omega)) (br_f (nI_nlt (a := 15) hk (by decide)) (br_t (nI_lt (by omega) (by omega)) ?_))
  rw [e]
  refine ⟨vp_in_nI (Nat.mod_lt _ (by decide)) (by decide), ?_⟩
  rw [nI_clamp (by omega)]
  exact h
theorem rl_last {fr fc fl fn fb fe fd fw : Int32} {a1 a2 a3 a4 a5 a6 a7 a8 a9 a10 a11 a12 a13 a14 a15 a16 a17 a18 a19 : Nat → Int32} {post : Int32 → Prop} (h : post fd) : wpX_last post (fr, fc, fl, fn, fb, fe, fd, fw, a1, a2, a3, a4, a5, a6, a7, a8, a9, a10, a11, a12, a13, a14, a15, a16, a17, a18, a19) := h
theorem rl_outputs {fr fc fl fn fb fe fd fw : Int32} {a1 a2 a3 a4 a5 a6 a7 a8 a9 a10 a11 a12 a13 a14 a15 a16 a17 a18 a19 : Nat → Int32} {post : Int32 → Prop} (h : post fw) : wpX_outputs post (fr, fc, fl, fn, fb, fe, fd, fw, a1, a2, a3, a4, a5, a6, a7, a8, a9, a10, a11, a12, a13, a14, a15, a16, a17, a18, a19) := h
theorem rl_output16 {fr fc fl fn fb fe fd fw : Int32} {a1 a2 a3 a4 a5 a6 a7 a8 a9 a10 a11 a12 a13 a14 a15 a16 a17 a18 a19 : Nat → Int32} {post : Int32 → Prop} (h : post 0) : wpX_output post (fr, fc, fl, fn, fb, fe, fd, fw, a1, a2, a3, a4, a5, a6, a7, a8, a9, a10, a11, a12, a13, a14, a15, a16, a17, a18, a19) 16 := by
  unfold wpX_output
  dsimp only
  exact br_f (by decide) (br_t (by decide) h)
theorem rl_init {post : St2 → Prop}
    (H : ∀ a5 a6 a7 : Nat → Int32, (∀ j, j < 10 → a5 j = -1 ∧ a6 j = -1 ∧ a7 j = -1) → post (0, 0, 0, 0, 0, 0, -1, 0, fun _ => 0, fun _ => 0, fun _ => 0, fun _ => 0, a5, a6, a7, fun _ => 0, fun _ => 0, fun _ => 0, fun _ => 0, fun _ => 0, fun _ => 0, fun _ => 0, fun _ => 0, fun _ => 0, fun _ => 0, fun _ => 0, fun _ => 0)) :
    wpX_init post 19 390 (0, 0, 0, 0, 0, 0, 0, 0) := by
  have K : ∃ n, wX_init_157 post 19 390 19 390 0 0 0 0 0 0 0 0 n (nI 0) (fun _ => 0) (fun _ => 0) (fun _ => 0) (fun _ => 0) (fun _ => 0) (fun _ => 0) (fun _ => 0) (fun _ => 0) (fun _ => 0) (fun _ => 0) (fun _ => 0) (fun _ => 0) (fun _ => 0) (fun _ => 0) (fun _ => 0) (fun _ => 0) (fun _ => 0) (fun _ => 0) (fun _ => 0) :=
    pk_loop (σ := (Nat → Int32) × (Nat → Int32) × (Nat → Int32)) (fun n i s => wX_init_157 post 19 390 19 390 0 0 0 0 0 0 0 0 n (nI i) (fun _ => 0) (fun _ => 0) (fun _ => 0) (fun _ => 0) s.1 s.2.1 s.2.2 (fun _ => 0) (fun _ => 0) (fun _ => 0) (fun _ => 0) (fun _ => 0) (fun _ => 0) (fun _ => 0) (fun _ => 0) (fun _ => 0) (fun _ => 0) (fun _ => 0) (fun _ => 0))
      (fun i s => ∀ j, j < i → s.1 j = -1 ∧ s.2.1 j = -1 ∧ s.2.2 j = -1) 10 0 (fun _ => 0, fun _ => 0, fun _ => 0) (by omega) (fun j hj => absurd hj (by omega))
      (fun n s h => pk_le 10 10 (fun _ => H _ _ _ h) (fun z => absurd z (by omega)))
      (fun n i s hi h hw => pk_le 10 i (fun z => absurd z (by omega)) (fun _ => ⟨pk_in i 10 hi, fun b5 e5 => ⟨pk_in i 10 hi, fun b6 e6 => ⟨pk_in i 10 hi, fun b7 e7 => nm_r (nI_1 i) (hw (b5, b6, b7) (fun j hj => by
        show b5 j = -1 ∧ b6 j = -1 ∧ b7 j = -1
        rw [e5, e6, e7, nI_clamp (by omega)]
        by_cases ej : j = i
        · rw [ej, pk_us, pk_us, pk_us]
          exact ⟨rfl, rfl, rfl⟩
        · rw [pk_un ej, pk_un ej, pk_un ej]
          exact h j (by omega)))⟩⟩⟩))
  unfold wpX_init
  dsimp only
  repeat' apply And.intro
  all_goals first | exact K | decide
end
section
/-! the walk that orders the blocks -/
/-- the ends of the law's four blocks -/
def rl_E (p q r : Nat) (a6 a7 : Nat → Int32) : Prop :=
  a6 0 = nI p ∧ a6 p = nI q ∧ a6 q = nI q ∧ a6 r = -1 ∧ a7 0 = nI r ∧ a7 p = -1 ∧ a7 q = nI 0 ∧ a7 r = -1
/-- their order and places -/
def rl_P (p q r : Nat) (a8 a9 : Nat → Int32) : Prop :=
  a8 0 = nI 0 ∧ a8 1 = nI r ∧ a8 2 = nI p ∧ a8 3 = nI q ∧ a9 0 = nI 0 ∧ a9 r = nI 1 ∧ a9 p = nI 2 ∧ a9 q = nI 3
theorem rl_o201_end {fr fl fn fb fe fd fw : Int32} {a1 a2 a3 a4 a5 a6 a7 a8 a9 a10 a11 a12 a13 a14 a15 a16 a17 a18 a19 : Nat → Int32} {post : St2 → Prop} {x : Int32} {c : Nat} (hc : c ≤ 10) (H : post (fr, (nI c), fl, fn, fb, fe, fd, fw, a1, a2, a3, a4, a5, a6, a7, a8, a9, a10, a11, a12, a13, a14, a15, a16, a17, a18, a19)) :
    ∃ n, wX_orderBlocks_201 post x fr (nI c) fl fn fb fe fd fw n (nI c) a1 a2 a3 a4 a5 a6 a7 a8 a9 a10 a11 a12 a13 a14 a15 a16 a17 a18 a19 :=
  ⟨1, br_t (nI_le (Nat.le_refl c) (by omega)) H⟩
theorem rl_o201_step {fr fl fn fb fe fd fw : Int32} {a1 a2 a3 a4 a5 a6 a7 a8 a9 a10 a11 a12 a13 a14 a15 a16 a17 a18 a19 : Nat → Int32} {post : St2 → Prop} (l i b c : Nat) (hi : i < c) (hl : l + i < 10) (hb : b < 10) (e : a8 (l + i) = nI b) (hc : c ≤ 10)
    (H : ∀ b8 b9, b8 = upd a8 i (nI b) → b9 = upd a9 b (nI i) → ∃ n, wX_orderBlocks_201 post (nI l) fr (nI c) fl fn fb fe fd fw n (nI (i + 1)) a1 a2 a3 a4 a5 a6 a7 b8 b9 a10 a11 a12 a13 a14 a15 a16 a17 a18 a19) :
    ∃ n, wX_orderBlocks_201 post (nI l) fr (nI c) fl fn fb fe fd fw n (nI i) a1 a2 a3 a4 a5 a6 a7 a8 a9 a10 a11 a12 a13 a14 a15 a16 a17 a18 a19 := by
  obtain ⟨n, h⟩ := H _ _ rfl rfl
  have hci : (nI i).toNatClampNeg = i := nI_clamp (by omega)
  have hcl : (nI l + nI i).toNatClampNeg = l + i := by rw [nI_add]; exact nI_clamp (by omega)
  have hil : vp_in (nI l + nI i) 10 := by rw [nI_add]; exact vp_in_nI hl (by decide)
  have hii : vp_in (nI i) 10 := vp_in_nI (by omega) (by decide)
  have hv : upd a8 i (nI b) (nI i).toNatClampNeg = nI b := by rw [hci, pk_us]
  refine ⟨n + 1, br_f (nI_ge hi (by omega)) ⟨hil, hii, nm_r (e' := upd a8 i (nI b)) (by rw [hci, hcl, e]) ⟨hii, ?_, nm_r (e' := upd a9 b (nI i)) (by rw [hv, nI_clamp (by omega)]) (nm_r (e' := nI (i + 1)) (nI_1 i) h)⟩⟩⟩
  rw [hv]
  exact vp_in_nI hb (by decide)
theorem rl_ob_done {fr fc fl fn fb fe fd fw : Int32} {a1 a2 a3 a4 a5 a6 a7 a8 a9 a10 a11 a12 a13 a14 a15 a16 a17 a18 a19 : Nat → Int32} {post : St2 → Prop} {met : Int32} (l c st : Nat) (hst : st < 40) (hl : c + l = 10)
    (H : ∃ n, wX_orderBlocks_201 post (nI l) fr (nI c) fl fn fb fe fd fw n (nI 0) a1 a2 a3 a4 a5 a6 a7 a8 a9 a10 a11 a12 a13 a14 a15 a16 a17 a18 a19) :
    ∃ n, wX_orderBlocks_45 post fr fc fl fn fb fe fd fw n (nI l) met (nI 0) (nI st) a1 a2 a3 a4 a5 a6 a7 a8 a9 a10 a11 a12 a13 a14 a15 a16 a17 a18 a19 := by
  have e : 10 - nI l = nI c := by
    have := pk_sub (a := 10) (b := l) (by omega)
    rw [show 10 - l = c by omega] at this
    exact this
  exact ⟨1, br_f (nI_ge (b := 40) hst (by decide)) (br_t (nI_le (Nat.le_refl 0) (by decide)) (nm_r (e' := nI c) e H))⟩
theorem rl_ob_pop {fr fc fl fn fb fe fd fw : Int32} {a1 a2 a3 a4 a5 a6 a7 a8 a9 a10 a11 a12 a13 a14 a15 a16 a17 a18 a19 : Nat → Int32} {post : St2 → Prop} {met : Int32} (l d b st : Nat) (hst : st < 40) (hd : d < 11) (hl : l < 10) (e10 : a10 d = nI b) (e11 : a11 d = nI 2)
    (H : ∀ b8 b11, b8 = upd a8 l (nI b) → b11 = upd a11 d (nI 3) → ∃ n, wX_orderBlocks_45 post fr fc fl fn fb fe fd fw n (nI l) met (nI d) (nI (st + 1)) a1 a2 a3 a4 a5 a6 a7 b8 a9 a10 b11 a12 a13 a14 a15 a16 a17 a18 a19) :
    ∃ n, wX_orderBlocks_45 post fr fc fl fn fb fe fd fw n (nI (l + 1)) met (nI (d + 1)) (nI st) a1 a2 a3 a4 a5 a6 a7 a8 a9 a10 a11 a12 a13 a14 a15 a16 a17 a18 a19 := by
  obtain ⟨n, h⟩ := H _ _ rfl rfl
  have hc : (nI (d + 1) - 1).toNatClampNeg = d := by rw [nI_pred]; exact nI_clamp (by omega)
  have hi : vp_in (nI (d + 1) - 1) 11 := by rw [nI_pred]; exact vp_in_nI hd (by decide)
  refine ⟨n + 1, br_f (nI_ge (b := 40) hst (by decide)) (br_f (nI_nle (by omega) (by omega)) ⟨hi, nm_r (e' := nI b) (by rw [hc, e10]) ⟨hi, nm_r (e' := nI 2) (by rw [hc, e11]) ⟨hi, hi, nm_r (e' := upd a11 d (nI 3)) (by rw [hc, e11, nI_1]) (br_f (by decide) (br_f (by decide) ?_))⟩⟩⟩)⟩
  unfold wX_orderBlocks_120
  exact br_t rfl (nm_r (e' := nI l) (pk_m1 l) ⟨vp_in_nI hl (by decide), nm_r (e' := upd a8 l (nI b)) (by rw [nI_clamp (by omega)]) (nm_r (e' := nI d) (pk_m1 d) (nm_r (e' := nI (st + 1)) (nI_1 st) h))⟩)
theorem rl_ob_mid {fr fc fl fn fb fe fd fw : Int32} {a1 a2 a3 a4 a5 a6 a7 a8 a9 a10 a11 a12 a13 a14 a15 a16 a17 a18 a19 : Nat → Int32} {post : St2 → Prop} {x met z : Int32} {d b s st n : Nat} (hst : st < 40) (hd : d < 11) (hb : b < 10) (e10 : a10 d = nI b) (e11 : a11 d = nI s) (hz : (s = 0 ∧ a6 b = z) ∨ (s = 1 ∧ a7 b = z))
    (K : wX_orderBlocks_120 post (wX_orderBlocks_45 post fr fc fl fn fb fe fd fw n) x met (nI (d + 1)) (nI st) (nI b) (nI s) z fr fc fl fn fb fe fd fw a1 a2 a3 a4 a5 a6 a7 a8 a9 a10 (upd a11 d (nI (s + 1))) a12 a13 a14 a15 a16 a17 a18 a19) :
    wX_orderBlocks_45 post fr fc fl fn fb fe fd fw (n + 1) x met (nI (d + 1)) (nI st) a1 a2 a3 a4 a5 a6 a7 a8 a9 a10 a11 a12 a13 a14 a15 a16 a17 a18 a19 := by
  have hc : (nI (d + 1) - 1).toNatClampNeg = d := by rw [nI_pred]; exact nI_clamp (by omega)
  have hi : vp_in (nI (d + 1) - 1) 11 := by rw [nI_pred]; exact vp_in_nI hd (by decide)
  have hib : vp_in (nI b) 10 := vp_in_nI hb (by decide)
  have hcb : (nI b).toNatClampNeg = b := nI_clamp (by omega)
  refine br_f (nI_ge (b := 40) hst (by decide)) (br_f (nI_nle (by omega) (by omega)) ⟨hi, nm_r (e' := nI b) (by rw [hc, e10]) ⟨hi, nm_r (e' := nI s) (by rw [hc, e11]) ⟨hi, hi, nm_r (e' := upd a11 d (nI (s + 1))) (by rw [hc, e11, nI_1]) ?_⟩⟩⟩)
  rcases hz with ⟨rfl, rfl⟩ | ⟨rfl, rfl⟩
  · exact br_t rfl ⟨hib, by rw [hcb]; exact K⟩
  · exact br_f (by decide) (br_t rfl ⟨hib, by rw [hcb]; exact K⟩)
theorem rl_ob_skip {fr fc fl fn fb fe fd fw : Int32} {a1 a2 a3 a4 a5 a6 a7 a8 a9 a10 a11 a12 a13 a14 a15 a16 a17 a18 a19 : Nat → Int32} {post : St2 → Prop} {x met z : Int32} (d b s st : Nat) (hst : st < 40) (hd : d < 11) (hb : b < 10) (e10 : a10 d = nI b) (e11 : a11 d = nI s) (hz : (s = 0 ∧ a6 b = z) ∨ (s = 1 ∧ a7 b = z))
    (hn : z < 0 ∨ ¬ ((met >>> (z &&& 31)) &&& 1) = 0)
    (H : ∀ b11, b11 = upd a11 d (nI (s + 1)) → ∃ n, wX_orderBlocks_45 post fr fc fl fn fb fe fd fw n x met (nI (d + 1)) (nI (st + 1)) a1 a2 a3 a4 a5 a6 a7 a8 a9 a10 b11 a12 a13 a14 a15 a16 a17 a18 a19) :
    ∃ n, wX_orderBlocks_45 post fr fc fl fn fb fe fd fw n x met (nI (d + 1)) (nI st) a1 a2 a3 a4 a5 a6 a7 a8 a9 a10 a11 a12 a13 a14 a15 a16 a17 a18 a19 := by
  obtain ⟨n, h⟩ := H _ rfl
  have hs2 : ¬ nI s = 2 := by
    rcases hz with ⟨rfl, _⟩ | ⟨rfl, _⟩ <;> decide
  refine ⟨n + 1, rl_ob_mid hst hd hb e10 e11 hz ?_⟩
  unfold wX_orderBlocks_120
  refine br_f hs2 (br_c (fun _ => nm_r (e' := nI (st + 1)) (nI_1 st) h) (fun hz0 => br_f ?_ (nm_r (e' := nI (st + 1)) (nI_1 st) h)))
  rcases hn with hn | hn
  · exact absurd hn hz0
  · exact hn
theorem rl_ob_push {fr fc fl fn fb fe fd fw : Int32} {a1 a2 a3 a4 a5 a6 a7 a8 a9 a10 a11 a12 a13 a14 a15 a16 a17 a18 a19 : Nat → Int32} {post : St2 → Prop} {x met : Int32} (d b s st c : Nat) (hst : st < 40) (hd : d + 1 < 11) (hb : b < 10) (e10 : a10 d = nI b) (e11 : a11 d = nI s) (hz : (s = 0 ∧ a6 b = nI c) ∨ (s = 1 ∧ a7 b = nI c)) (hc10 : c < 10)
    (hn : ((met >>> (nI c &&& 31)) &&& 1) = 0)
    (H : ∀ b10 b11, b10 = upd a10 (d + 1) (nI c) → b11 = upd (upd a11 d (nI (s + 1))) (d + 1) (nI 0) → ∃ n, wX_orderBlocks_45 post fr fc fl fn fb fe fd fw n x (met ||| ((1 : Int32) <<< (nI c &&& 31))) (nI (d + 1 + 1)) (nI (st + 1)) a1 a2 a3 a4 a5 a6 a7 a8 a9 b10 b11 a12 a13 a14 a15 a16 a17 a18 a19) :
    ∃ n, wX_orderBlocks_45 post fr fc fl fn fb fe fd fw n x met (nI (d + 1)) (nI st) a1 a2 a3 a4 a5 a6 a7 a8 a9 a10 a11 a12 a13 a14 a15 a16 a17 a18 a19 := by
  obtain ⟨n, h⟩ := H _ _ rfl rfl
  have hs2 : ¬ nI s = 2 := by
    rcases hz with ⟨rfl, _⟩ | ⟨rfl, _⟩ <;> decide
  have hid : vp_in (nI (d + 1)) 11 := vp_in_nI hd (by decide)
  have hcd : (nI (d + 1)).toNatClampNeg = d + 1 := nI_clamp (by omega)
  refine ⟨n + 1, rl_ob_mid hst (by omega) hb e10 e11 hz ?_⟩
  unfold wX_orderBlocks_120
  exact br_f hs2 (br_f (nI_pos (by omega)) (br_t hn (nm_e ⟨hid, nm_r (e' := upd a10 (d + 1) (nI c)) (by rw [hcd]) ⟨hid, nm_r (e' := upd (upd a11 d (nI (s + 1))) (d + 1) (nI 0)) (by rw [hcd]; rfl) (nm_r (e' := nI (d + 1 + 1)) (nI_1 (d + 1)) (nm_r (e' := nI (st + 1)) (nI_1 st) h))⟩⟩)))
theorem rl_order0 {fr fc fl fn fb fe fd fw : Int32} {a1 a2 a3 a4 a5 a6 a7 a8 a9 a10 a11 a12 a13 a14 a15 a16 a17 a18 a19 : Nat → Int32} {post : St2 → Prop}
    (H : ∀ b9 b10 b11, b10 = upd a10 0 (nI 0) → b11 = upd a11 0 (nI 0) → ∃ n, wX_orderBlocks_45 post fr fc fl fn fb fe fd fw n (nI 10) 1 (nI (0 + 1)) (nI 0) a1 a2 a3 a4 a5 a6 a7 a8 b9 b10 b11 a12 a13 a14 a15 a16 a17 a18 a19) :
    wpX_orderBlocks post (fr, fc, fl, fn, fb, fe, fd, fw, a1, a2, a3, a4, a5, a6, a7, a8, a9, a10, a11, a12, a13, a14, a15, a16, a17, a18, a19) := by
  unfold wpX_orderBlocks
  dsimp only
  exact pk_loop (σ := Nat → Int32) (fun n i s => wX_orderBlocks_2 post fr fc fl fn fb fe fd fw n (nI i) a1 a2 a3 a4 a5 a6 a7 a8 s a10 a11 a12 a13 a14 a15 a16 a17 a18 a19) (fun _ _ => True) 10 0 a9 (by omega) trivial
    (fun n s _ => pk_le 10 10 (fun _ => fun b10 e10 b11 e11 => H s b10 b11 e10 e11) (fun z => absurd z (by omega)))
    (fun n i s hi _ hw => pk_le 10 i (fun z => absurd z (by omega)) (fun _ => ⟨pk_in i 10 hi, fun b9 _ => nm_r (nI_1 i) (hw b9 trivial)⟩))
theorem rl_order {fr fc fl fn fb fe fd fw : Int32} {a1 a2 a3 a4 a5 a6 a7 a8 a9 a10 a11 a12 a13 a14 a15 a16 a17 a18 a19 : Nat → Int32} {post : St2 → Prop} {p q r : Nat} (hp : 1 ≤ p) (hp' : p < 4) (hq : 4 ≤ q) (hq' : q < 7) (hr : 7 ≤ r) (hr' : r < 10) (hE : rl_E p q r a6 a7)
    (H : ∀ b8 b9 b10 b11, rl_P p q r b8 b9 → post (fr, (nI 4), fl, fn, fb, fe, fd, fw, a1, a2, a3, a4, a5, a6, a7, b8, b9, b10, b11, a12, a13, a14, a15, a16, a17, a18, a19)) : wpX_orderBlocks post (fr, fc, fl, fn, fb, fe, fd, fw, a1, a2, a3, a4, a5, a6, a7, a8, a9, a10, a11, a12, a13, a14, a15, a16, a17, a18, a19) := by
  obtain ⟨E1, E2, E3, E4, E5, E6, E7, E8⟩ := hE
  obtain ⟨B1, B2, B3, B4, B5⟩ := rl_bit p hp' q hq' r hr' hp hq hr
  refine rl_order0 (fun c9 s0 t0 es0 et0 => ?_)
  refine rl_ob_push 0 0 0 0 p (by decide) (by decide) (by decide) (by rw [es0, pk_us]) (by rw [et0, pk_us]) (Or.inl ⟨rfl, E1⟩) (by omega) B1 (fun s1 t1 es1 et1 => ?_)
  refine rl_ob_push 1 p 0 1 q (by decide) (by decide) (by omega) (by simp [es1, upd]) (by simp [et1, upd]) (Or.inl ⟨rfl, E2⟩) (by omega) B2 (fun s2 t2 es2 et2 => ?_)
  refine rl_ob_skip 2 q 0 2 (by decide) (by decide) (by omega) (by simp [es2, upd]) (by simp [et2, upd]) (Or.inl ⟨rfl, E3⟩) (Or.inr B3) (fun t3 et3 => ?_)
  refine rl_ob_skip 2 q 1 3 (by decide) (by decide) (by omega) (by simp [es2, upd]) (by simp [et3, upd]) (Or.inr ⟨rfl, E7⟩) (Or.inr B4) (fun t4 et4 => ?_)
  refine rl_ob_pop 9 2 q 4 (by decide) (by decide) (by decide) (by simp [es2, upd]) (by simp [et4, upd]) (fun o5 t5 eo5 et5 => ?_)
  refine rl_ob_skip 1 p 1 5 (by decide) (by decide) (by omega) (by simp [es2, es1, upd]) (by simp [et5, et4, et3, et2, upd]) (Or.inr ⟨rfl, E6⟩) (Or.inl (by decide)) (fun t6 et6 => ?_)
  refine rl_ob_pop 8 1 p 6 (by decide) (by decide) (by decide) (by simp [es2, es1, upd]) (by simp [et6, upd]) (fun o7 t7 eo7 et7 => ?_)
  refine rl_ob_push 0 0 1 7 r (by decide) (by decide) (by decide) (by simp [es2, es1, es0, upd]) (by simp [et7, et6, et5, et4, et3, et2, et1, upd]) (Or.inr ⟨rfl, E5⟩) (by omega) B5 (fun s8 t8 es8 et8 => ?_)
  refine rl_ob_skip 1 r 0 8 (by decide) (by decide) (by omega) (by simp [es8, upd]) (by simp [et8, upd]) (Or.inl ⟨rfl, E4⟩) (Or.inl (by decide)) (fun t9 et9 => ?_)
  refine rl_ob_skip 1 r 1 9 (by decide) (by decide) (by omega) (by simp [es8, upd]) (by simp [et9, upd]) (Or.inr ⟨rfl, E8⟩) (Or.inl (by decide)) (fun t10 et10 => ?_)
  refine rl_ob_pop 7 1 r 10 (by decide) (by decide) (by decide) (by simp [es8, upd]) (by simp [et10, upd]) (fun o11 t11 eo11 et11 => ?_)
  refine rl_ob_pop 6 0 0 11 (by decide) (by decide) (by decide) (by simp [es8, es2, es1, es0, upd]) (by simp [et11, et10, et9, et8, upd]) (fun o12 t12 eo12 et12 => ?_)
  refine rl_ob_done 6 4 12 (by decide) (by decide) ?_
  refine rl_o201_step 6 0 0 4 (by decide) (by decide) (by decide) (by simp [eo12, upd]) (by decide) (fun o13 c13 eo13 ec13 => ?_)
  refine rl_o201_step 6 1 r 4 (by decide) (by decide) (by omega) (by simp [eo13, eo12, eo11, upd]) (by decide) (fun o14 c14 eo14 ec14 => ?_)
  refine rl_o201_step 6 2 p 4 (by decide) (by decide) (by omega) (by simp [eo14, eo13, eo12, eo11, eo7, upd]) (by decide) (fun o15 c15 eo15 ec15 => ?_)
  refine rl_o201_step 6 3 q 4 (by decide) (by decide) (by omega) (by simp [eo15, eo14, eo13, eo12, eo11, eo7, eo5, upd]) (by decide) (fun o16 c16 eo16 ec16 => ?_)
  refine rl_o201_end (by decide) (H _ _ _ _ ⟨?_, ?_, ?_, ?_, ?_, ?_, ?_, ?_⟩)
  · simp [eo16, eo15, eo14, eo13, upd]
  · simp [eo16, eo15, eo14, upd]
  · simp [eo16, eo15, upd]
  · simp [eo16, upd]
  · rw [ec16, ec15, ec14, ec13, pk_un (by omega), pk_un (by omega), pk_un (by omega), pk_us]
  · rw [ec16, ec15, ec14, pk_un (by omega), pk_un (by omega), pk_us]
  · rw [ec16, ec15, pk_un (by omega), pk_us]
  · rw [ec16, pk_us]
theorem rl_orderB {fr fc fl fn fb fe fd fw : Int32} {a1 a2 a3 a4 a5 a6 a7 a8 a9 a10 a11 a12 a13 a14 a15 a16 a17 a18 a19 : Nat → Int32} {post : St2 → Prop} (h6 : a6 0 = -1) (h7 : a7 0 = -1)
    (H : ∀ b8 b9 b10 b11, b8 0 = nI 0 → b9 0 = nI 0 → post (fr, (nI 1), fl, fn, fb, fe, fd, fw, a1, a2, a3, a4, a5, a6, a7, b8, b9, b10, b11, a12, a13, a14, a15, a16, a17, a18, a19)) : wpX_orderBlocks post (fr, fc, fl, fn, fb, fe, fd, fw, a1, a2, a3, a4, a5, a6, a7, a8, a9, a10, a11, a12, a13, a14, a15, a16, a17, a18, a19) := by
  refine rl_order0 (fun c9 s0 t0 es0 et0 => ?_)
  refine rl_ob_skip 0 0 0 0 (by decide) (by decide) (by decide) (by rw [es0, pk_us]) (by rw [et0, pk_us]) (Or.inl ⟨rfl, h6⟩) (Or.inl (by decide)) (fun t1 et1 => ?_)
  refine rl_ob_skip 0 0 1 1 (by decide) (by decide) (by decide) (by rw [es0, pk_us]) (by rw [et1, pk_us]) (Or.inr ⟨rfl, h7⟩) (Or.inl (by decide)) (fun t2 et2 => ?_)
  refine rl_ob_pop 9 0 0 2 (by decide) (by decide) (by decide) (by rw [es0, pk_us]) (by rw [et2, pk_us]) (fun o3 t3 eo3 et3 => ?_)
  refine rl_ob_done 9 1 3 (by decide) (by decide) ?_
  refine rl_o201_step 9 0 0 1 (by decide) (by decide) (by decide) (by simp [eo3, upd]) (by decide) (fun o4 c4 eo4 ec4 => ?_)
  exact rl_o201_end (by decide) (H _ _ _ _ (by rw [eo4, pk_us]) (by rw [ec4, pk_us]))
end
section
/-! loops: found, widened (nothing to widen) -/
theorem rl_add0 {fr fc fn fb fe fd fw : Int32} {a1 a2 a3 a4 a5 a6 a7 a8 a9 a10 a11 a12 a13 a14 a15 a16 a17 a18 a19 : Nat → Int32} {post : St2 → Prop} {x y : Int32}
    (H : ∀ b12 b13, b12 = upd a12 0 x → b13 = upd a13 0 y → post (fr, fc, (nI 1), fn, fb, fe, fd, fw, a1, a2, a3, a4, a5, a6, a7, a8, a9, a10, a11, b12, b13, a14, a15, a16, a17, a18, a19)) : wpX_addLoop post (fr, fc, (nI 0), fn, fb, fe, fd, fw, a1, a2, a3, a4, a5, a6, a7, a8, a9, a10, a11, a12, a13, a14, a15, a16, a17, a18, a19) x y := by
  unfold wpX_addLoop
  dsimp only
  refine ⟨1, br_t (nI_le (a := 0) (b := 0) (by decide) (by decide)) ⟨vp_in_nI (by decide) (by decide), fun b12 e12 => ⟨vp_in_nI (by decide) (by decide), fun b13 e13 => nm_r (e' := nI 1) (nI_1 0) (H _ _ ?_ ?_)⟩⟩⟩
  · rw [e12, nI_clamp (by decide)]
  · rw [e13, nI_clamp (by decide)]
theorem rl_add1 {fr fc fn fb fe fd fw : Int32} {a1 a2 a3 a4 a5 a6 a7 a8 a9 a10 a11 a12 a13 a14 a15 a16 a17 a18 a19 : Nat → Int32} {post : St2 → Prop} {x y : Int32} (hne : ¬ a12 0 = x)
    (H : ∀ b12 b13, b12 = upd a12 1 x → b13 = upd a13 1 y → post (fr, fc, (nI 2), fn, fb, fe, fd, fw, a1, a2, a3, a4, a5, a6, a7, a8, a9, a10, a11, b12, b13, a14, a15, a16, a17, a18, a19)) : wpX_addLoop post (fr, fc, (nI 1), fn, fb, fe, fd, fw, a1, a2, a3, a4, a5, a6, a7, a8, a9, a10, a11, a12, a13, a14, a15, a16, a17, a18, a19) x y := by
  unfold wpX_addLoop
  dsimp only
  refine ⟨2, br_f (nI_ge (a := 0) (b := 1) (by decide) (by decide)) ⟨vp_in_nI (n := 0) (by decide) (by decide), br_f hne (nm_r (e' := nI 1) (nI_1 0) ?_)⟩⟩
  refine br_t (nI_le (a := 1) (b := 1) (by decide) (by decide)) ⟨vp_in_nI (by decide) (by decide), fun b12 e12 => ⟨vp_in_nI (by decide) (by decide), fun b13 e13 => nm_r (e' := nI 2) (nI_1 1) (H _ _ ?_ ?_)⟩⟩
  · rw [e12, nI_clamp (by decide)]
  · rw [e13, nI_clamp (by decide)]
/-- a jump that goes nowhere, or on -/
def rl_fwd (a9 : Nat → Int32) (i : Nat) (t : Int32) : Prop := t < 0 ∨ ∃ b k : Nat, t = nI b ∧ b < 10 ∧ k < 10 ∧ a9 b = nI k ∧ i < k
theorem rl_f64 {fr fc fl fn fb fe fd fw : Int32} {a1 a2 a3 a4 a5 a6 a7 a8 a9 a10 a11 a12 a13 a14 a15 a16 a17 a18 a19 : Nat → Int32} {post : St2 → Prop} {J : (Int32 → Int32 → Int32 → Int32 → Int32 → Int32 → Int32 → Int32 → Int32 → (Nat → Int32) → (Nat → Int32) → (Nat → Int32) → (Nat → Int32) → (Nat → Int32) → (Nat → Int32) → (Nat → Int32) → (Nat → Int32) → (Nat → Int32) → (Nat → Int32) → (Nat → Int32) → (Nat → Int32) → (Nat → Int32) → (Nat → Int32) → (Nat → Int32) → (Nat → Int32) → (Nat → Int32) → (Nat → Int32) → (Nat → Int32) → Prop)}
    {i : Nat} {u : Int32} (hu : rl_fwd a9 i u) (K : J (nI (i + 1)) fr fc fl fn fb fe fd fw a1 a2 a3 a4 a5 a6 a7 a8 a9 a10 a11 a12 a13 a14 a15 a16 a17 a18 a19) : wX_findLoops_64 post J (nI i) u fr fc fl fn fb fe fd fw a1 a2 a3 a4 a5 a6 a7 a8 a9 a10 a11 a12 a13 a14 a15 a16 a17 a18 a19 := by
  unfold wX_findLoops_64
  rcases hu with hu | ⟨b, k, rfl, hb, hk, e9, hik⟩
  · exact br_t hu (nm_r (nI_1 i) K)
  · refine br_f (nI_pos (by omega)) ⟨vp_in_nI hb (by decide), br_t ?_ (nm_r (nI_1 i) K)⟩
    rw [nI_clamp (by omega), e9]
    exact nI_lt hik (by omega)
theorem rl_f7 {fr fl fn fb fe fd fw : Int32} {a1 a2 a3 a4 a5 a6 a7 a8 a9 a10 a11 a12 a13 a14 a15 a16 a17 a18 a19 : Nat → Int32} {post : St2 → Prop} {n i b c : Nat} {t u : Int32} (hc : c ≤ 10) (hi : i < c) (hb : b < 10) (e8 : a8 i = nI b) (e6 : a6 b = t) (e7 : a7 b = u) (ht : rl_fwd a9 i t) (hu : rl_fwd a9 i u)
    (K : wX_findLoops_7 post n (nI (i + 1)) fr (nI c) fl fn fb fe fd fw a1 a2 a3 a4 a5 a6 a7 a8 a9 a10 a11 a12 a13 a14 a15 a16 a17 a18 a19) : wX_findLoops_7 post (n + 1) (nI i) fr (nI c) fl fn fb fe fd fw a1 a2 a3 a4 a5 a6 a7 a8 a9 a10 a11 a12 a13 a14 a15 a16 a17 a18 a19 := by
  have hci : (nI i).toNatClampNeg = i := nI_clamp (by omega)
  have hcb : (nI b).toNatClampNeg = b := nI_clamp (by omega)
  have hii : vp_in (nI i) 10 := vp_in_nI (by omega) (by decide)
  have hib : vp_in (a8 (nI i).toNatClampNeg) 10 := by rw [hci, e8]; exact vp_in_nI hb (by decide)
  have K' := rl_f64 (post := post) hu K
  refine br_f (nI_ge hi (by omega)) ⟨hii, hib, nm_r (e' := t) (by rw [hci, e8, hcb, e6]) ⟨hii, hib, nm_r (e' := u) (by rw [hci, e8, hcb, e7]) ?_⟩⟩
  rcases ht with ht | ⟨b', k, rfl, hb', hk, e9, hik⟩
  · exact br_t ht K'
  · refine br_f (nI_pos (by omega)) ⟨vp_in_nI hb' (by decide), br_t ?_ K'⟩
    rw [nI_clamp (by omega), e9]
    exact nI_lt hik (by omega)
theorem rl_f7_end {fr fl fn fb fe fd fw : Int32} {a1 a2 a3 a4 a5 a6 a7 a8 a9 a10 a11 a12 a13 a14 a15 a16 a17 a18 a19 : Nat → Int32} {post : St2 → Prop} {n c : Nat} (hc : c ≤ 10) (H : post (fr, (nI c), fl, fn, fb, fe, fd, fw, a1, a2, a3, a4, a5, a6, a7, a8, a9, a10, a11, a12, a13, a14, a15, a16, a17, a18, a19)) : wX_findLoops_7 post (n + 1) (nI c) fr (nI c) fl fn fb fe fd fw a1 a2 a3 a4 a5 a6 a7 a8 a9 a10 a11 a12 a13 a14 a15 a16 a17 a18 a19 :=
  br_t (nI_le (Nat.le_refl c) (by omega)) H
/-- the two loops of the law's graph: the inner one of the last block alone, the outer one of all -/
def rl_L (a12 a13 : Nat → Int32) : Prop := a12 0 = nI 3 ∧ a12 1 = nI 0 ∧ a13 0 = nI 3 ∧ a13 1 = nI 3
theorem rl_find {fr fl fn fb fe fd fw : Int32} {a1 a2 a3 a4 a5 a6 a7 a8 a9 a10 a11 a12 a13 a14 a15 a16 a17 a18 a19 : Nat → Int32} {post : St2 → Prop} {p q r : Nat} (hp : 1 ≤ p) (hp' : p < 4) (hq : 4 ≤ q) (hq' : q < 7) (hr : 7 ≤ r) (hr' : r < 10) (hE : rl_E p q r a6 a7) (hP : rl_P p q r a8 a9)
    (H : ∀ b12 b13, rl_L b12 b13 → post (fr, (nI 4), (nI 2), fn, fb, fe, fd, fw, a1, a2, a3, a4, a5, a6, a7, a8, a9, a10, a11, b12, b13, a14, a15, a16, a17, a18, a19)) : wpX_findLoops post (fr, (nI 4), fl, fn, fb, fe, fd, fw, a1, a2, a3, a4, a5, a6, a7, a8, a9, a10, a11, a12, a13, a14, a15, a16, a17, a18, a19) := by
  obtain ⟨E1, E2, E3, E4, E5, E6, E7, E8⟩ := hE
  obtain ⟨P1, P2, P3, P4, P5, P6, P7, P8⟩ := hP
  have hm : (-1 : Int32) < 0 := by decide
  unfold wpX_findLoops
  dsimp only
  refine ⟨5, ?_⟩
  refine rl_f7 (n := 4) (i := 0) (b := 0) (c := 4) (by decide) (by decide) (by decide) P1 E1 E5 (Or.inr ⟨p, 2, rfl, by omega, by decide, P7, by decide⟩) (Or.inr ⟨r, 1, rfl, by omega, by decide, P6, by decide⟩) ?_
  refine rl_f7 (n := 3) (i := 1) (b := r) (c := 4) (by decide) (by decide) (by omega) P2 E4 E8 (Or.inl hm) (Or.inl hm) ?_
  refine rl_f7 (n := 2) (i := 2) (b := p) (c := 4) (by decide) (by decide) (by omega) P3 E2 E6 (Or.inr ⟨q, 3, rfl, by omega, by decide, P8, by decide⟩) (Or.inl hm) ?_
  have hc3 : (nI 3).toNatClampNeg = 3 := nI_clamp (by decide)
  have hcq : (nI q).toNatClampNeg = q := nI_clamp (by omega)
  have hi3 : vp_in (nI 3) 10 := vp_in_nI (by decide) (by decide)
  have hiq : vp_in (nI q) 10 := vp_in_nI (by omega) (by decide)
  have hib : vp_in (a8 (nI 3).toNatClampNeg) 10 := by rw [hc3, P4]; exact hiq
  have hn3 : a9 (nI q).toNatClampNeg = nI 3 := by rw [hcq, P8]
  have hn0 : a9 (nI 0).toNatClampNeg = nI 0 := by rw [nI_clamp (by decide), P5]
  refine br_f (nI_ge (a := 3) (b := 4) (by decide) (by decide)) ⟨hi3, hib, nm_r (e' := nI q) (by rw [hc3, P4, hcq, E3]) ⟨hi3, hib, nm_r (e' := nI 0) (by rw [hc3, P4, hcq, E7]) (br_f (nI_pos (by omega)) ⟨hiq, ?_⟩)⟩⟩
  rw [hn3]
  refine br_f (by decide) ⟨hiq, rl_add0 (fun b12 b13 e12 e13 => ?_)⟩
  dsimp only
  unfold wX_findLoops_64
  refine br_f (by decide) ⟨vp_in_nI (by decide) (by decide), ?_⟩
  rw [hn0]
  refine br_f (by decide) ⟨vp_in_nI (by decide) (by decide), rl_add1 (by rw [e12, pk_us]; decide) (fun d12 d13 f12 f13 => ?_)⟩
  dsimp only
  refine nm_r (e' := nI 4) (nI_1 3) (rl_f7_end (by decide) (H _ _ ⟨?_, ?_, ?_, ?_⟩))
  · rw [f12, pk_un (by decide), e12, pk_us]
  · rw [f12, pk_us]
  · rw [f13, pk_un (by decide), e13, pk_us]
  · rw [f13, pk_us]
theorem rl_findB {fr fl fn fb fe fd fw : Int32} {a1 a2 a3 a4 a5 a6 a7 a8 a9 a10 a11 a12 a13 a14 a15 a16 a17 a18 a19 : Nat → Int32} {post : St2 → Prop} (h6 : a6 0 = -1) (h7 : a7 0 = -1) (h8 : a8 0 = nI 0)
    (H : post (fr, (nI 1), (nI 0), fn, fb, fe, fd, fw, a1, a2, a3, a4, a5, a6, a7, a8, a9, a10, a11, a12, a13, a14, a15, a16, a17, a18, a19)) : wpX_findLoops post (fr, (nI 1), fl, fn, fb, fe, fd, fw, a1, a2, a3, a4, a5, a6, a7, a8, a9, a10, a11, a12, a13, a14, a15, a16, a17, a18, a19) := by
  have hm : (-1 : Int32) < 0 := by decide
  unfold wpX_findLoops
  dsimp only
  exact ⟨2, rl_f7 (n := 1) (i := 0) (b := 0) (c := 1) (by decide) (by decide) (by decide) h8 h6 h7 (Or.inl hm) (Or.inl hm) (rl_f7_end (by decide) H)⟩
theorem rl_widen {fr fc fn fb fe fd fw : Int32} {a1 a2 a3 a4 a5 a6 a7 a8 a9 a10 a11 a12 a13 a14 a15 a16 a17 a18 a19 : Nat → Int32} {post : Int32 → St2 → Prop} {c : Nat} (hc : c ≤ 20) (hn : ∀ i j, i < c → j < c → a12 j ≤ a12 i ∨ a13 i < a12 j ∨ a13 j ≤ a13 i)
    (H : post 0 (fr, fc, (nI c), fn, fb, fe, fd, fw, a1, a2, a3, a4, a5, a6, a7, a8, a9, a10, a11, a12, a13, a14, a15, a16, a17, a18, a19)) : wpX_widenOnce post (fr, fc, (nI c), fn, fb, fe, fd, fw, a1, a2, a3, a4, a5, a6, a7, a8, a9, a10, a11, a12, a13, a14, a15, a16, a17, a18, a19) := by
  unfold wpX_widenOnce
  dsimp only
  refine pk_loop (σ := Unit) (fun n i _ => wX_widenOnce_4 post fr fc (nI c) fn fb fe fd fw n 0 (nI i) a1 a2 a3 a4 a5 a6 a7 a8 a9 a10 a11 a12 a13 a14 a15 a16 a17 a18 a19) (fun _ _ => True) c 0 () (by omega) trivial
    (fun n _ _ => br_t (nI_le (Nat.le_refl c) (by omega)) ⟨rfl, H⟩) (fun n i _ hi _ hw => br_f (nI_ge hi (by omega)) ?_)
  have hii : vp_in (nI i) 20 := vp_in_nI (by omega) (by decide)
  have hci : (nI i).toNatClampNeg = i := nI_clamp (by omega)
  refine pk_loop (σ := Unit) (fun m j _ => wX_widenOnce_14 post (wX_widenOnce_4 post fr fc (nI c) fn fb fe fd fw n) (nI i) fr fc (nI c) fn fb fe fd fw m 0 (nI j) a1 a2 a3 a4 a5 a6 a7 a8 a9 a10 a11 a12 a13 a14 a15 a16 a17 a18 a19) (fun _ _ => True) c 0 () (by omega) trivial
    (fun m _ _ => br_t (nI_le (Nat.le_refl c) (by omega)) (nm_r (nI_1 i) (hw () trivial))) (fun m j _ hj _ hv => br_f (nI_ge hj (by omega)) ?_)
  have hij : vp_in (nI j) 20 := vp_in_nI (by omega) (by decide)
  have hcj : (nI j).toNatClampNeg = j := nI_clamp (by omega)
  have K := hv () trivial
  rw [hci, hcj]
  refine ⟨hii, hij, br_c (fun _ => nm_r (nI_1 j) K) (fun h1 => ⟨hij, hii, br_c (fun _ => nm_r (nI_1 j) K) (fun h2 => ⟨hii, hij, br_t ?_ (nm_r (nI_1 j) K)⟩)⟩)⟩
  rcases hn i j hi hj with h | h | h
  · exact absurd h h1
  · exact absurd h h2
  · exact h
theorem rl_widenL {a12 a13 : Nat → Int32} (h : rl_L a12 a13) : ∀ i j, i < 2 → j < 2 → a12 j ≤ a12 i ∨ a13 i < a12 j ∨ a13 j ≤ a13 i := by
  obtain ⟨h1, h2, h3, h4⟩ := h
  intro i j hi hj
  refine Or.inr (Or.inr ?_)
  have e : ∀ k, k < 2 → a13 k = nI 3 := by
    intro k hk
    rcases (show k = 0 ∨ k = 1 by omega) with rfl | rfl
    · exact h3
    · exact h4
  rw [e i hi, e j hj]
  exact nI_le (Nat.le_refl 3) (by decide)
end
section
/-! the structured code -/
theorem rl_put {fr fc fl fb fe fd fw : Int32} {a1 a2 a3 a4 a5 a6 a7 a8 a9 a10 a11 a12 a13 a14 a15 a16 a17 a18 a19 : Nat → Int32} {post : St2 → Prop} {k : Nat} {x y : Int32} (hk : k < 64)
    (H : ∀ b14 b15, b14 = upd a14 k x → b15 = upd a15 k y → post (fr, fc, fl, (nI (k + 1)), fb, fe, fd, fw, a1, a2, a3, a4, a5, a6, a7, a8, a9, a10, a11, a12, a13, b14, b15, a16, a17, a18, a19)) : wpX_put post (fr, fc, fl, (nI k), fb, fe, fd, fw, a1, a2, a3, a4, a5, a6, a7, a8, a9, a10, a11, a12, a13, a14, a15, a16, a17, a18, a19) x y := by
  have hc : (nI k).toNatClampNeg = k := nI_clamp (by omega)
  have hi : vp_in (nI k) 64 := vp_in_nI hk (by decide)
  unfold wpX_put
  dsimp only
  exact br_t (nI_lt (b := 64) hk (by decide)) ⟨hi, fun b14 e14 => ⟨hi, fun b15 e15 => nm_r (nI_1 k) (H _ _ (by rw [e14, hc]) (by rw [e15, hc]))⟩⟩
theorem rl_l2 {fr fc fn fb fe fd fw : Int32} {a1 a2 a3 a4 a5 a6 a7 a8 a9 a10 a11 a12 a13 a14 a15 a16 a17 a18 a19 : Nat → Int32} {post : St2 → Prop} {x y : Int32} {n l c : Nat} (hc : c ≤ 20) (hl : l < c) (hn : ¬ (a12 l = x ∧ a13 l = y))
    (K : wX_endLoop_2 post x y n (nI (l + 1)) fr fc (nI c) fn fb fe fd fw a1 a2 a3 a4 a5 a6 a7 a8 a9 a10 a11 a12 a13 a14 a15 a16 a17 a18 a19) : wX_endLoop_2 post x y (n + 1) (nI l) fr fc (nI c) fn fb fe fd fw a1 a2 a3 a4 a5 a6 a7 a8 a9 a10 a11 a12 a13 a14 a15 a16 a17 a18 a19 := by
  have hcl : (nI l).toNatClampNeg = l := nI_clamp (by omega)
  have hi : vp_in (nI l) 20 := vp_in_nI (by omega) (by decide)
  refine br_f (nI_ge hl (by omega)) ⟨hi, ?_⟩
  rw [hcl]
  exact br_c (fun h => ⟨hi, br_f (fun h' => hn ⟨h, h'⟩) (nm_r (nI_1 l) K)⟩) (fun _ => nm_r (nI_1 l) K)
theorem rl_l2_hit {fr fc fb fe fd fw : Int32} {a1 a2 a3 a4 a5 a6 a7 a8 a9 a10 a11 a12 a13 a14 a15 a16 a17 a18 a19 : Nat → Int32} {post : St2 → Prop} {x y : Int32} {n l c k : Nat} (hc : c ≤ 20) (hl : l < c) (h1 : a12 l = x) (h2 : a13 l = y) (hk : k < 64)
    (K : ∀ b14 b15, b14 = upd a14 k 2 → b15 = upd a15 k (nI l) → wX_endLoop_2 post x y n (nI (l + 1)) fr fc (nI c) (nI (k + 1)) fb fe fd fw a1 a2 a3 a4 a5 a6 a7 a8 a9 a10 a11 a12 a13 b14 b15 a16 a17 a18 a19) : wX_endLoop_2 post x y (n + 1) (nI l) fr fc (nI c) (nI k) fb fe fd fw a1 a2 a3 a4 a5 a6 a7 a8 a9 a10 a11 a12 a13 a14 a15 a16 a17 a18 a19 := by
  have hcl : (nI l).toNatClampNeg = l := nI_clamp (by omega)
  have hi : vp_in (nI l) 20 := vp_in_nI (by omega) (by decide)
  refine br_f (nI_ge hl (by omega)) ⟨hi, ?_⟩
  rw [hcl]
  exact br_t h1 ⟨hi, br_t h2 (rl_put hk (fun b14 b15 e14 e15 => nm_r (nI_1 l) (K _ _ e14 e15)))⟩
theorem rl_l2_end {fr fc fn fb fe fd fw : Int32} {a1 a2 a3 a4 a5 a6 a7 a8 a9 a10 a11 a12 a13 a14 a15 a16 a17 a18 a19 : Nat → Int32} {post : St2 → Prop} {x y : Int32} {n c : Nat} (hc : c ≤ 20) (H : post (fr, fc, (nI c), fn, fb, fe, fd, fw, a1, a2, a3, a4, a5, a6, a7, a8, a9, a10, a11, a12, a13, a14, a15, a16, a17, a18, a19)) : wX_endLoop_2 post x y (n + 1) (nI c) fr fc (nI c) fn fb fe fd fw a1 a2 a3 a4 a5 a6 a7 a8 a9 a10 a11 a12 a13 a14 a15 a16 a17 a18 a19 :=
  br_t (nI_le (Nat.le_refl c) (by omega)) H
theorem rl_end {fr fc fn fb fe fd fw : Int32} {a1 a2 a3 a4 a5 a6 a7 a8 a9 a10 a11 a12 a13 a14 a15 a16 a17 a18 a19 : Nat → Int32} {post : St2 → Prop} {x y : Int32} {c : Nat} (hc : c ≤ 20) (hn : ∀ l, l < c → ¬ (a12 l = x ∧ a13 l = y)) (H : post (fr, fc, (nI c), fn, fb, fe, fd, fw, a1, a2, a3, a4, a5, a6, a7, a8, a9, a10, a11, a12, a13, a14, a15, a16, a17, a18, a19)) : wpX_endLoop post (fr, fc, (nI c), fn, fb, fe, fd, fw, a1, a2, a3, a4, a5, a6, a7, a8, a9, a10, a11, a12, a13, a14, a15, a16, a17, a18, a19) x y := by
  unfold wpX_endLoop
  dsimp only
  exact pk_loop (σ := Unit) (fun n l _ => wX_endLoop_2 post x y n (nI l) fr fc (nI c) fn fb fe fd fw a1 a2 a3 a4 a5 a6 a7 a8 a9 a10 a11 a12 a13 a14 a15 a16 a17 a18 a19) (fun _ _ => True) c 0 () (by omega) trivial
    (fun n _ _ => rl_l2_end hc H) (fun n l _ hl _ hw => rl_l2 hc hl (hn l hl) (hw () trivial))
theorem rl_end0 {fr fc fb fe fd fw : Int32} {a1 a2 a3 a4 a5 a6 a7 a8 a9 a10 a11 a12 a13 a14 a15 a16 a17 a18 a19 : Nat → Int32} {post : St2 → Prop} {k : Nat} (hL : rl_L a12 a13) (hk : k < 64)
    (H : ∀ b14 b15, b14 = upd a14 k 2 → b15 = upd a15 k (nI 0) → post (fr, fc, (nI 2), (nI (k + 1)), fb, fe, fd, fw, a1, a2, a3, a4, a5, a6, a7, a8, a9, a10, a11, a12, a13, b14, b15, a16, a17, a18, a19)) : wpX_endLoop post (fr, fc, (nI 2), (nI k), fb, fe, fd, fw, a1, a2, a3, a4, a5, a6, a7, a8, a9, a10, a11, a12, a13, a14, a15, a16, a17, a18, a19) (nI 3) (nI 3) := by
  obtain ⟨h1, h2, h3, h4⟩ := hL
  unfold wpX_endLoop
  dsimp only
  refine ⟨3, rl_l2_hit (n := 2) (l := 0) (c := 2) (k := k) (by decide) (by decide) h1 h3 hk (fun b14 b15 e14 e15 => ?_)⟩
  refine rl_l2 (n := 1) (l := 1) (c := 2) (by decide) (by decide) (fun z => ?_) (rl_l2_end (n := 0) (c := 2) (by decide) (H _ _ e14 e15))
  rw [h2] at z
  exact absurd z.1 (by decide)
theorem rl_end1 {fr fc fb fe fd fw : Int32} {a1 a2 a3 a4 a5 a6 a7 a8 a9 a10 a11 a12 a13 a14 a15 a16 a17 a18 a19 : Nat → Int32} {post : St2 → Prop} {k : Nat} (hL : rl_L a12 a13) (hk : k < 64)
    (H : ∀ b14 b15, b14 = upd a14 k 2 → b15 = upd a15 k (nI 1) → post (fr, fc, (nI 2), (nI (k + 1)), fb, fe, fd, fw, a1, a2, a3, a4, a5, a6, a7, a8, a9, a10, a11, a12, a13, b14, b15, a16, a17, a18, a19)) : wpX_endLoop post (fr, fc, (nI 2), (nI k), fb, fe, fd, fw, a1, a2, a3, a4, a5, a6, a7, a8, a9, a10, a11, a12, a13, a14, a15, a16, a17, a18, a19) (nI 0) (nI 3) := by
  obtain ⟨h1, h2, h3, h4⟩ := hL
  unfold wpX_endLoop
  dsimp only
  refine ⟨3, rl_l2 (n := 2) (l := 0) (c := 2) (by decide) (by decide) (fun z => ?_) ?_⟩
  · rw [h1] at z
    exact absurd z.1 (by decide)
  · exact rl_l2_hit (n := 1) (l := 1) (c := 2) (k := k) (by decide) (by decide) h2 h4 hk (fun b14 b15 e14 e15 => rl_l2_end (n := 0) (c := 2) (by decide) (H _ _ e14 e15))
theorem rl_65_none {fr fc fn fb fe fd fw : Int32} {a1 a2 a3 a4 a5 a6 a7 a8 a9 a10 a11 a12 a13 a14 a15 a16 a17 a18 a19 : Nat → Int32} {post : St2 → Prop} {J : (Int32 → Int32 → Int32 → Int32 → Int32 → Int32 → Int32 → Int32 → Int32 → (Nat → Int32) → (Nat → Int32) → (Nat → Int32) → (Nat → Int32) → (Nat → Int32) → (Nat → Int32) → (Nat → Int32) → (Nat → Int32) → (Nat → Int32) → (Nat → Int32) → (Nat → Int32) → (Nat → Int32) → (Nat → Int32) → (Nat → Int32) → (Nat → Int32) → (Nat → Int32) → (Nat → Int32) → (Nat → Int32) → (Nat → Int32) → Prop)} {c i : Nat} (hc : c ≤ 20) (hi : i < 10) (hn : ∀ l, l < c → ¬ a13 l = nI i) (K : J (nI (i + 1)) fr fc (nI c) fn fb fe fd fw a1 a2 a3 a4 a5 a6 a7 a8 a9 a10 a11 a12 a13 a14 a15 a16 a17 a18 a19) :
    ∀ s, s < 10 → ∃ n, wX_emit_65 post J (nI i) n (nI s) fr fc (nI c) fn fb fe fd fw a1 a2 a3 a4 a5 a6 a7 a8 a9 a10 a11 a12 a13 a14 a15 a16 a17 a18 a19 := by
  have K0 : wX_emit_65 post J (nI i) 1 (-1) fr fc (nI c) fn fb fe fd fw a1 a2 a3 a4 a5 a6 a7 a8 a9 a10 a11 a12 a13 a14 a15 a16 a17 a18 a19 := br_t (by decide) (nm_r (nI_1 i) K)
  intro s
  induction s with
  | zero =>
    intro _
    exact ⟨2, br_f (by decide) (rl_end hc (fun l hl z => hn l hl z.2) (nm_r (e' := -1) (by decide) K0))⟩
  | succ s ih =>
    intro hs
    obtain ⟨n, h⟩ := ih (by omega)
    exact ⟨n + 1, br_f (nI_pos (by omega)) (rl_end hc (fun l hl z => hn l hl z.2) (nm_r (e' := nI s) (pk_m1 s) h))⟩
theorem rl_17_no {fr fc fn fb fe fd fw : Int32} {a1 a2 a3 a4 a5 a6 a7 a8 a9 a10 a11 a12 a13 a14 a15 a16 a17 a18 a19 : Nat → Int32} {post : St2 → Prop} {J : (Int32 → Int32 → Int32 → Int32 → Int32 → Int32 → Int32 → Int32 → Int32 → (Nat → Int32) → (Nat → Int32) → (Nat → Int32) → (Nat → Int32) → (Nat → Int32) → (Nat → Int32) → (Nat → Int32) → (Nat → Int32) → (Nat → Int32) → (Nat → Int32) → (Nat → Int32) → (Nat → Int32) → (Nat → Int32) → (Nat → Int32) → (Nat → Int32) → (Nat → Int32) → (Nat → Int32) → (Nat → Int32) → (Nat → Int32) → Prop)} {x : Int32} {n l c : Nat} (hc : c ≤ 20) (hl : l < c) (hn : ¬ a12 l = x)
    (K : wX_emit_17 post J x n (nI (l + 1)) fr fc (nI c) fn fb fe fd fw a1 a2 a3 a4 a5 a6 a7 a8 a9 a10 a11 a12 a13 a14 a15 a16 a17 a18 a19) : wX_emit_17 post J x (n + 1) (nI l) fr fc (nI c) fn fb fe fd fw a1 a2 a3 a4 a5 a6 a7 a8 a9 a10 a11 a12 a13 a14 a15 a16 a17 a18 a19 := by
  have hcl : (nI l).toNatClampNeg = l := nI_clamp (by omega)
  have hi : vp_in (nI l) 20 := vp_in_nI (by omega) (by decide)
  refine br_f (nI_ge hl (by omega)) ⟨hi, br_f ?_ (nm_r (nI_1 l) K)⟩
  rw [hcl]
  exact hn
theorem rl_17_hit {fr fc fb fe fd fw : Int32} {a1 a2 a3 a4 a5 a6 a7 a8 a9 a10 a11 a12 a13 a14 a15 a16 a17 a18 a19 : Nat → Int32} {post : St2 → Prop} {J : (Int32 → Int32 → Int32 → Int32 → Int32 → Int32 → Int32 → Int32 → Int32 → (Nat → Int32) → (Nat → Int32) → (Nat → Int32) → (Nat → Int32) → (Nat → Int32) → (Nat → Int32) → (Nat → Int32) → (Nat → Int32) → (Nat → Int32) → (Nat → Int32) → (Nat → Int32) → (Nat → Int32) → (Nat → Int32) → (Nat → Int32) → (Nat → Int32) → (Nat → Int32) → (Nat → Int32) → (Nat → Int32) → (Nat → Int32) → Prop)} {x : Int32} {n l c k : Nat} (hc : c ≤ 20) (hl : l < c) (h1 : a12 l = x) (hk : k < 64)
    (K : ∀ b14 b15 b16, b14 = upd a14 k 0 → b15 = upd a15 k (nI l) → b16 = upd a16 l (nI k) → wX_emit_17 post J x n (nI (l + 1)) fr fc (nI c) (nI (k + 1)) fb fe fd fw a1 a2 a3 a4 a5 a6 a7 a8 a9 a10 a11 a12 a13 b14 b15 b16 a17 a18 a19) : wX_emit_17 post J x (n + 1) (nI l) fr fc (nI c) (nI k) fb fe fd fw a1 a2 a3 a4 a5 a6 a7 a8 a9 a10 a11 a12 a13 a14 a15 a16 a17 a18 a19 := by
  have hcl : (nI l).toNatClampNeg = l := nI_clamp (by omega)
  have hi : vp_in (nI l) 20 := vp_in_nI (by omega) (by decide)
  refine br_f (nI_ge hl (by omega)) ⟨hi, br_t (by rw [hcl]; exact h1) ⟨hi, fun b16 e16 => ?_⟩⟩
  exact rl_put hk (fun b14 b15 e14 e15 => nm_r (nI_1 l) (K _ _ _ e14 e15 (by rw [e16, hcl])))
theorem rl_17_end {fr fc fb fe fd fw : Int32} {a1 a2 a3 a4 a5 a6 a7 a8 a9 a10 a11 a12 a13 a14 a15 a16 a17 a18 a19 : Nat → Int32} {post : St2 → Prop} {J : (Int32 → Int32 → Int32 → Int32 → Int32 → Int32 → Int32 → Int32 → Int32 → (Nat → Int32) → (Nat → Int32) → (Nat → Int32) → (Nat → Int32) → (Nat → Int32) → (Nat → Int32) → (Nat → Int32) → (Nat → Int32) → (Nat → Int32) → (Nat → Int32) → (Nat → Int32) → (Nat → Int32) → (Nat → Int32) → (Nat → Int32) → (Nat → Int32) → (Nat → Int32) → (Nat → Int32) → (Nat → Int32) → (Nat → Int32) → Prop)} {x : Int32} {n c k : Nat} (hc : c ≤ 20) (hk : k < 64)
    (K : ∀ b14 b15, b14 = upd a14 k 1 → b15 = upd a15 k x → ∃ n, wX_emit_65 post J x n x fr fc (nI c) (nI (k + 1)) fb fe fd fw a1 a2 a3 a4 a5 a6 a7 a8 a9 a10 a11 a12 a13 b14 b15 a16 a17 a18 a19) : wX_emit_17 post J x (n + 1) (nI c) fr fc (nI c) (nI k) fb fe fd fw a1 a2 a3 a4 a5 a6 a7 a8 a9 a10 a11 a12 a13 a14 a15 a16 a17 a18 a19 :=
  br_t (nI_le (Nat.le_refl c) (by omega)) (rl_put hk (fun b14 b15 e14 e15 => K _ _ e14 e15))
theorem rl_7 {fr fl fn fb fe fd fw : Int32} {a1 a2 a3 a4 a5 a6 a7 a8 a9 a10 a11 a12 a13 a14 a15 a16 a17 a18 a19 : Nat → Int32} {post : St2 → Prop} {n i c : Nat} (hc : c ≤ 10) (hi : i < c) (K : ∃ m, wX_emit_17 post (wX_emit_7 post n) (nI i) m (nI 0) fr (nI c) fl fn fb fe fd fw a1 a2 a3 a4 a5 a6 a7 a8 a9 a10 a11 a12 a13 a14 a15 a16 a17 a18 a19) : wX_emit_7 post (n + 1) (nI i) fr (nI c) fl fn fb fe fd fw a1 a2 a3 a4 a5 a6 a7 a8 a9 a10 a11 a12 a13 a14 a15 a16 a17 a18 a19 :=
  br_f (nI_ge hi (by omega)) K
theorem rl_7_end {fr fl fn fb fe fd fw : Int32} {a1 a2 a3 a4 a5 a6 a7 a8 a9 a10 a11 a12 a13 a14 a15 a16 a17 a18 a19 : Nat → Int32} {post : St2 → Prop} {n c : Nat} (hc : c ≤ 10) (H : post (fr, (nI c), fl, fn, fb, fe, fd, fw, a1, a2, a3, a4, a5, a6, a7, a8, a9, a10, a11, a12, a13, a14, a15, a16, a17, a18, a19)) : wX_emit_7 post (n + 1) (nI c) fr (nI c) fl fn fb fe fd fw a1 a2 a3 a4 a5 a6 a7 a8 a9 a10 a11 a12 a13 a14 a15 a16 a17 a18 a19 :=
  br_t (nI_le (Nat.le_refl c) (by omega)) H
/-- the code of the law's graph -/
def rl_W (a14 a15 a16 : Nat → Int32) : Prop :=
  (a14 0 = 0 ∧ a14 1 = 1 ∧ a14 2 = 1 ∧ a14 3 = 1 ∧ a14 4 = 0 ∧ a14 5 = 1 ∧ a14 6 = 2 ∧ a14 7 = 2) ∧
  (a15 1 = nI 0 ∧ a15 2 = nI 1 ∧ a15 3 = nI 2 ∧ a15 5 = nI 3 ∧ a15 6 = nI 0 ∧ a15 7 = nI 1) ∧ a16 0 = nI 4 ∧ a16 1 = nI 0
theorem rl_emit {fr fn fb fe fd fw : Int32} {a1 a2 a3 a4 a5 a6 a7 a8 a9 a10 a11 a12 a13 a14 a15 a16 a17 a18 a19 : Nat → Int32} {post : St2 → Prop} (hL : rl_L a12 a13)
    (H : ∀ b14 b15 b16, rl_W b14 b15 b16 → post (fr, (nI 4), (nI 2), (nI 8), fb, fe, fd, fw, a1, a2, a3, a4, a5, a6, a7, a8, a9, a10, a11, a12, a13, b14, b15, b16, a17, a18, a19)) : wpX_emit post (fr, (nI 4), (nI 2), fn, fb, fe, fd, fw, a1, a2, a3, a4, a5, a6, a7, a8, a9, a10, a11, a12, a13, a14, a15, a16, a17, a18, a19) := by
  have hL' := hL
  obtain ⟨h1, h2, h3, h4⟩ := hL'
  have hL13 : ∀ i, i < 3 → ∀ l, l < 2 → ¬ a13 l = nI i := by
    intro i hi l hl z
    have e : a13 l = nI 3 := by
      rcases (show l = 0 ∨ l = 1 by omega) with rfl | rfl
      · exact h3
      · exact h4
    rw [e] at z
    have := (nI_eq (by decide) (by omega)).mp z
    omega
  have ne : ∀ i j : Nat, i < 10 → j < 10 → i ≠ j → ¬ nI i = nI j := fun i j hi hj hne z => hne ((nI_eq (by omega) (by omega)).mp z)
  unfold wpX_emit
  dsimp only
  refine ⟨5, ?_⟩
  refine rl_7 (n := 4) (i := 0) (c := 4) (by decide) (by decide) ⟨3, ?_⟩
  refine rl_17_no (n := 2) (l := 0) (c := 2) (by decide) (by decide) (by rw [h1]; exact ne 3 0 (by decide) (by decide) (by decide)) ?_
  refine rl_17_hit (n := 1) (l := 1) (c := 2) (k := 0) (by decide) (by decide) h2 (by decide) (fun w1 x1 s1 ew1 ex1 es1 => ?_)
  refine rl_17_end (n := 0) (c := 2) (k := 1) (by decide) (by decide) (fun w2 x2 ew2 ex2 => ?_)
  refine rl_65_none (c := 2) (i := 0) (by decide) (by decide) (hL13 0 (by decide)) ?_ 0 (by decide)
  refine rl_7 (n := 3) (i := 1) (c := 4) (by decide) (by decide) ⟨3, ?_⟩
  refine rl_17_no (n := 2) (l := 0) (c := 2) (by decide) (by decide) (by rw [h1]; exact ne 3 1 (by decide) (by decide) (by decide)) ?_
  refine rl_17_no (n := 1) (l := 1) (c := 2) (by decide) (by decide) (by rw [h2]; exact ne 0 1 (by decide) (by decide) (by decide)) ?_
  refine rl_17_end (n := 0) (c := 2) (k := 2) (by decide) (by decide) (fun w3 x3 ew3 ex3 => ?_)
  refine rl_65_none (c := 2) (i := 1) (by decide) (by decide) (hL13 1 (by decide)) ?_ 1 (by decide)
  refine rl_7 (n := 2) (i := 2) (c := 4) (by decide) (by decide) ⟨3, ?_⟩
  refine rl_17_no (n := 2) (l := 0) (c := 2) (by decide) (by decide) (by rw [h1]; exact ne 3 2 (by decide) (by decide) (by decide)) ?_
  refine rl_17_no (n := 1) (l := 1) (c := 2) (by decide) (by decide) (by rw [h2]; exact ne 0 2 (by decide) (by decide) (by decide)) ?_
  refine rl_17_end (n := 0) (c := 2) (k := 3) (by decide) (by decide) (fun w4 x4 ew4 ex4 => ?_)
  refine rl_65_none (c := 2) (i := 2) (by decide) (by decide) (hL13 2 (by decide)) ?_ 2 (by decide)
  refine rl_7 (n := 1) (i := 3) (c := 4) (by decide) (by decide) ⟨3, ?_⟩
  refine rl_17_hit (n := 2) (l := 0) (c := 2) (k := 4) (by decide) (by decide) h1 (by decide) (fun w5 x5 s5 ew5 ex5 es5 => ?_)
  refine rl_17_no (n := 1) (l := 1) (c := 2) (by decide) (by decide) (by rw [h2]; exact ne 0 3 (by decide) (by decide) (by decide)) ?_
  refine rl_17_end (n := 0) (c := 2) (k := 5) (by decide) (by decide) (fun w6 x6 ew6 ex6 => ⟨5, ?_⟩)
  refine br_f (by decide) (rl_end0 (k := 6) hL (by decide) (fun w7 x7 ew7 ex7 => nm_r (e' := nI 2) (pk_m1 2) ?_))
  refine br_f (by decide) (rl_end (c := 2) (x := nI 2) (y := nI 3) (by decide) (fun l hl z => ?_) (nm_r (e' := nI 1) (pk_m1 1) ?_))
  · rcases (show l = 0 ∨ l = 1 by omega) with rfl | rfl
    · rw [h1] at z
      exact absurd z.1 (by decide)
    · rw [h2] at z
      exact absurd z.1 (by decide)
  refine br_f (by decide) (rl_end (c := 2) (x := nI 1) (y := nI 3) (by decide) (fun l hl z => ?_) (nm_r (e' := nI 0) (pk_m1 0) ?_))
  · rcases (show l = 0 ∨ l = 1 by omega) with rfl | rfl
    · rw [h1] at z
      exact absurd z.1 (by decide)
    · rw [h2] at z
      exact absurd z.1 (by decide)
  refine br_f (by decide) (rl_end1 (k := 7) hL (by decide) (fun w8 x8 ew8 ex8 => nm_r (e' := -1) (by decide) ?_))
  refine br_t (by decide) (nm_r (e' := nI 4) (nI_1 3) ?_)
  refine rl_7_end (n := 0) (c := 4) (by decide) (H _ _ _ ⟨⟨?_, ?_, ?_, ?_, ?_, ?_, ?_, ?_⟩, ⟨?_, ?_, ?_, ?_, ?_, ?_⟩, ?_, ?_⟩)
  · simp [ew8, ew7, ew6, ew5, ew4, ew3, ew2, ew1, upd]
  · simp [ew8, ew7, ew6, ew5, ew4, ew3, ew2, upd]
  · simp [ew8, ew7, ew6, ew5, ew4, ew3, upd]
  · simp [ew8, ew7, ew6, ew5, ew4, upd]
  · simp [ew8, ew7, ew6, ew5, upd]
  · simp [ew8, ew7, ew6, upd]
  · simp [ew8, ew7, upd]
  · simp [ew8, upd]
  · simp [ex8, ex7, ex6, ex5, ex4, ex3, ex2, upd]
  · simp [ex8, ex7, ex6, ex5, ex4, ex3, upd]
  · simp [ex8, ex7, ex6, ex5, ex4, upd]
  · simp [ex8, ex7, ex6, upd]
  · simp [ex8, ex7, upd]
  · simp [ex8, upd]
  · simp [es5, upd]
  · simp [es5, es1, upd]
theorem rl_emitB {fr fn fb fe fd fw : Int32} {a1 a2 a3 a4 a5 a6 a7 a8 a9 a10 a11 a12 a13 a14 a15 a16 a17 a18 a19 : Nat → Int32} {post : St2 → Prop}
    (H : ∀ b14 b15, b14 0 = 1 → b15 0 = nI 0 → post (fr, (nI 1), (nI 0), (nI 1), fb, fe, fd, fw, a1, a2, a3, a4, a5, a6, a7, a8, a9, a10, a11, a12, a13, b14, b15, a16, a17, a18, a19)) : wpX_emit post (fr, (nI 1), (nI 0), fn, fb, fe, fd, fw, a1, a2, a3, a4, a5, a6, a7, a8, a9, a10, a11, a12, a13, a14, a15, a16, a17, a18, a19) := by
  unfold wpX_emit
  dsimp only
  refine ⟨2, rl_7 (n := 1) (i := 0) (c := 1) (by decide) (by decide) ⟨1, ?_⟩⟩
  refine rl_17_end (n := 0) (c := 0) (k := 0) (by decide) (by decide) (fun w1 x1 ew1 ex1 => ?_)
  refine rl_65_none (c := 0) (i := 0) (by decide) (by decide) (fun l hl => absurd hl (by omega)) ?_ 0 (by decide)
  exact rl_7_end (n := 0) (c := 1) (by decide) (H _ _ (by rw [ew1, pk_us]) (by rw [ex1, pk_us]))
/-- prepare, for the law's graph -/
theorem rl_prepare {fc fl fn fb fe fd fw : Int32} {a1 a2 a3 a4 a5 a6 a7 a8 a9 a10 a11 a12 a13 a14 a15 a16 a17 a18 a19 : Nat → Int32} {post : St2 → Prop} {p q r : Nat} (hp : 1 ≤ p) (hp' : p < 4) (hq : 4 ≤ q) (hq' : q < 7) (hr : 7 ≤ r) (hr' : r < 10) (hE : rl_E p q r a6 a7)
    (H : ∀ b8 b9 b10 b11 b12 b13 b14 b15 b16, rl_P p q r b8 b9 → rl_L b12 b13 → rl_W b14 b15 b16 → post (1, (nI 4), (nI 2), (nI 8), fb, fe, fd, fw, a1, a2, a3, a4, a5, a6, a7, b8, b9, b10, b11, b12, b13, b14, b15, b16, a17, a18, a19)) :
    wpX_prepare post (0, fc, fl, fn, fb, fe, fd, fw, a1, a2, a3, a4, a5, a6, a7, a8, a9, a10, a11, a12, a13, a14, a15, a16, a17, a18, a19) := by
  unfold wpX_prepare
  dsimp only
  refine br_t rfl (rl_order hp hp' hq hq' hr hr' hE (fun b8 b9 b10 b11 hP => ?_))
  dsimp only
  refine rl_find hp hp' hq hq' hr hr' hE hP (fun b12 b13 hL => ?_)
  dsimp only
  refine ⟨2, br_f (by decide) (br_f (by decide) (rl_widen (c := 2) (by decide) (rl_widenL hL) (nm_r (e' := nI 1) (nI_1 0) (br_f (by decide) (br_t rfl ?_)))))⟩
  unfold wX_prepare_46
  exact rl_emit hL (fun b14 b15 b16 hW => H _ _ _ _ _ _ _ _ _ hP hL hW)
/-- prepare, where block 0 stops -/
theorem rl_prepareB {fc fl fn fb fe fd fw : Int32} {a1 a2 a3 a4 a5 a6 a7 a8 a9 a10 a11 a12 a13 a14 a15 a16 a17 a18 a19 : Nat → Int32} {post : St2 → Prop} (h6 : a6 0 = -1) (h7 : a7 0 = -1)
    (H : ∀ b8 b9 b10 b11 b14 b15, b8 0 = nI 0 → b9 0 = nI 0 → b14 0 = 1 → b15 0 = nI 0 → post (1, (nI 1), (nI 0), (nI 1), fb, fe, fd, fw, a1, a2, a3, a4, a5, a6, a7, b8, b9, b10, b11, a12, a13, b14, b15, a16, a17, a18, a19)) :
    wpX_prepare post (0, fc, fl, fn, fb, fe, fd, fw, a1, a2, a3, a4, a5, a6, a7, a8, a9, a10, a11, a12, a13, a14, a15, a16, a17, a18, a19) := by
  unfold wpX_prepare
  dsimp only
  refine br_t rfl (rl_orderB h6 h7 (fun b8 b9 b10 b11 h8 h9 => ?_))
  dsimp only
  refine rl_findB h6 h7 h8 ?_
  dsimp only
  refine ⟨2, br_f (by decide) (br_f (by decide) (rl_widen (c := 0) (by decide) (fun i j hi _ => absurd hi (by omega)) (nm_r (e' := nI 1) (nI_1 0) (br_f (by decide) (br_t rfl ?_)))))⟩
  unfold wX_prepare_46
  exact rl_emitB (fun b14 b15 h14 h15 => H _ _ _ _ _ _ h8 h9 h14 h15)
theorem rl_prepareN {fr fc fl fn fb fe fd fw : Int32} {a1 a2 a3 a4 a5 a6 a7 a8 a9 a10 a11 a12 a13 a14 a15 a16 a17 a18 a19 : Nat → Int32} {post : St2 → Prop} (h : ¬ fr = 0) (H : post (fr, fc, fl, fn, fb, fe, fd, fw, a1, a2, a3, a4, a5, a6, a7, a8, a9, a10, a11, a12, a13, a14, a15, a16, a17, a18, a19)) : wpX_prepare post (fr, fc, fl, fn, fb, fe, fd, fw, a1, a2, a3, a4, a5, a6, a7, a8, a9, a10, a11, a12, a13, a14, a15, a16, a17, a18, a19) := by
  unfold wpX_prepare
  dsimp only
  exact br_f h H
end
section
/-! a block is carried out -/
theorem rl_co5 {fr fc fl fn fb fe fd : Int32} {a1 a2 a3 a4 a5 a6 a7 a8 a9 a10 a11 a12 a13 a14 a15 a16 a17 a18 a19 : Nat → Int32} {post : St2 → Prop} {i v w : Nat} (hi : i < 30) (hv : v < 4) (hw : w < 1000) (h2 : a2 i = nI 5) (h3 : a3 i = nI v)
    (H : ∀ b19, b19 = upd a19 (w % 16) (a17 v) → post (fr, fc, fl, fn, fb, fe, fd, (nI (w + 1)), a1, a2, a3, a4, a5, a6, a7, a8, a9, a10, a11, a12, a13, a14, a15, a16, a17, a18, b19)) : wpX_carryOut post (fr, fc, fl, fn, fb, fe, fd, (nI w), a1, a2, a3, a4, a5, a6, a7, a8, a9, a10, a11, a12, a13, a14, a15, a16, a17, a18, a19) (nI i) := by
  have hc : (nI i).toNatClampNeg = i := nI_clamp (by omega)
  have hii : vp_in (nI i) 30 := vp_in_nI hi (by decide)
  have ew : nI w &&& 15 = nI (w % 16) := pk_andN (n := w) (by omega) 4 (by decide)
  unfold wpX_carryOut
  dsimp only
  refine ⟨hii, nm_r (e' := nI v) (by rw [hc, h3]) ⟨hii, nm_e ⟨hii, nm_r (e' := nI 5) (by rw [hc, h2]) (br_f (by decide) (br_t (by decide) ⟨vp_in_nI hv (by decide), ?_⟩))⟩⟩⟩
  rw [ew]
  refine ⟨vp_in_nI (Nat.mod_lt _ (by decide)) (by decide), fun b19 e19 => nm_r (nI_1 w) (H _ ?_)⟩
  rw [e19, nI_clamp (by omega), nI_clamp (by omega)]
theorem rl_co0 {fr fc fl fn fb fe fd fw : Int32} {a1 a2 a3 a4 a5 a6 a7 a8 a9 a10 a11 a12 a13 a14 a15 a16 a17 a18 a19 : Nat → Int32} {post : St2 → Prop} {i v : Nat} {x : Int32} (hi : i < 30) (hv : v < 4) (h2 : a2 i = nI 0) (h3 : a3 i = nI v) (h4 : a4 i = x)
    (H : ∀ b17, b17 = upd a17 v x → post (fr, fc, fl, fn, fb, fe, fd, fw, a1, a2, a3, a4, a5, a6, a7, a8, a9, a10, a11, a12, a13, a14, a15, a16, b17, a18, a19)) : wpX_carryOut post (fr, fc, fl, fn, fb, fe, fd, fw, a1, a2, a3, a4, a5, a6, a7, a8, a9, a10, a11, a12, a13, a14, a15, a16, a17, a18, a19) (nI i) := by
  have hc : (nI i).toNatClampNeg = i := nI_clamp (by omega)
  have hcv : (nI v).toNatClampNeg = v := nI_clamp (by omega)
  have hii : vp_in (nI i) 30 := vp_in_nI hi (by decide)
  unfold wpX_carryOut
  dsimp only
  exact ⟨hii, nm_r (e' := nI v) (by rw [hc, h3]) ⟨hii, nm_r (e' := x) (by rw [hc, h4]) ⟨hii, nm_r (e' := nI 0) (by rw [hc, h2]) (br_f (by decide) (br_f (by decide) (br_t rfl ⟨vp_in_nI hv (by decide), fun b17 e17 => H _ (by rw [e17, hcv])⟩)))⟩⟩⟩
theorem rl_co1 {fr fc fl fn fb fe fd fw : Int32} {a1 a2 a3 a4 a5 a6 a7 a8 a9 a10 a11 a12 a13 a14 a15 a16 a17 a18 a19 : Nat → Int32} {post : St2 → Prop} {i v w : Nat} (hi : i < 30) (hv : v < 4) (hw : w < 4) (h2 : a2 i = nI 1) (h3 : a3 i = nI v) (h4 : a4 i = nI w)
    (H : ∀ b17, b17 = upd a17 v (a17 v + a17 w) → post (fr, fc, fl, fn, fb, fe, fd, fw, a1, a2, a3, a4, a5, a6, a7, a8, a9, a10, a11, a12, a13, a14, a15, a16, b17, a18, a19)) : wpX_carryOut post (fr, fc, fl, fn, fb, fe, fd, fw, a1, a2, a3, a4, a5, a6, a7, a8, a9, a10, a11, a12, a13, a14, a15, a16, a17, a18, a19) (nI i) := by
  have hc : (nI i).toNatClampNeg = i := nI_clamp (by omega)
  have hcv : (nI v).toNatClampNeg = v := nI_clamp (by omega)
  have hcw : (nI w).toNatClampNeg = w := nI_clamp (by omega)
  have hii : vp_in (nI i) 30 := vp_in_nI hi (by decide)
  have hiv : vp_in (nI v) 4 := vp_in_nI hv (by decide)
  unfold wpX_carryOut
  dsimp only
  exact ⟨hii, nm_r (e' := nI v) (by rw [hc, h3]) ⟨hii, nm_r (e' := nI w) (by rw [hc, h4]) ⟨hii, nm_r (e' := nI 1) (by rw [hc, h2]) (br_f (by decide) (br_f (by decide) (br_f (by decide) (br_t rfl ⟨hiv, vp_in_nI hw (by decide), hiv, fun b17 e17 => H _ (by rw [e17, hcv, hcw])⟩))))⟩⟩⟩
theorem rl_co4 {fr fc fl fn fb fe fd fw : Int32} {a1 a2 a3 a4 a5 a6 a7 a8 a9 a10 a11 a12 a13 a14 a15 a16 a17 a18 a19 : Nat → Int32} {post : St2 → Prop} {i v : Nat} {x : Int32} (hi : i < 30) (hv : v < 4) (h2 : a2 i = nI 4) (h3 : a3 i = nI v) (h4 : a4 i = x)
    (H : ∀ b17, b17 = upd a17 v (a17 v + x) → post (fr, fc, fl, fn, fb, fe, fd, fw, a1, a2, a3, a4, a5, a6, a7, a8, a9, a10, a11, a12, a13, a14, a15, a16, b17, a18, a19)) : wpX_carryOut post (fr, fc, fl, fn, fb, fe, fd, fw, a1, a2, a3, a4, a5, a6, a7, a8, a9, a10, a11, a12, a13, a14, a15, a16, a17, a18, a19) (nI i) := by
  have hc : (nI i).toNatClampNeg = i := nI_clamp (by omega)
  have hcv : (nI v).toNatClampNeg = v := nI_clamp (by omega)
  have hii : vp_in (nI i) 30 := vp_in_nI hi (by decide)
  have hiv : vp_in (nI v) 4 := vp_in_nI hv (by decide)
  unfold wpX_carryOut
  dsimp only
  exact ⟨hii, nm_r (e' := nI v) (by rw [hc, h3]) ⟨hii, nm_r (e' := x) (by rw [hc, h4]) ⟨hii, nm_r (e' := nI 4) (by rw [hc, h2]) (br_f (by decide) (br_f (by decide) (br_f (by decide) (br_f (by decide) (br_f (by decide) (br_f (by decide) (br_t rfl ⟨hiv, hiv, fun b17 e17 => H _ (by rw [e17, hcv])⟩)))))))⟩⟩⟩
/-- where a block goes, as a label -/
def rl_goes (a5 a6 a7 a9 a17 : Nat → Int32) (b : Nat) (lab : Int32) : Prop :=
  ∃ nx : Int32, ((a5 b = -1 ∧ a6 b = nx) ∨ (∃ v, v < 4 ∧ a5 b = nI v ∧ ((0 < a17 v ∧ a6 b = nx) ∨ (¬ 0 < a17 v ∧ a7 b = nx)))) ∧
    ((nx = -1 ∧ lab = -1) ∨ (∃ t, t < 10 ∧ nx = nI t ∧ a9 t = lab))
theorem rl_91 {fr fc fl fn fb fe fd fw : Int32} {a1 a2 a3 a4 a5 a6 a7 a8 a9 a10 a11 a12 a13 a14 a15 a16 a17 a18 a19 : Nat → Int32} {post : St2 → Prop} {nx lab : Int32} (h : (nx = -1 ∧ lab = -1) ∨ (∃ t, t < 10 ∧ nx = nI t ∧ a9 t = lab)) (H : post (fr, fc, fl, fn, lab, fe, fd, fw, a1, a2, a3, a4, a5, a6, a7, a8, a9, a10, a11, a12, a13, a14, a15, a16, a17, a18, a19)) : wX_enter_91 post nx fr fc fl fn fb fe fd fw a1 a2 a3 a4 a5 a6 a7 a8 a9 a10 a11 a12 a13 a14 a15 a16 a17 a18 a19 := by
  unfold wX_enter_91
  rcases h with ⟨rfl, rfl⟩ | ⟨t, ht, rfl, rfl⟩
  · exact br_f (by decide) H
  · exact br_t (nI_pos' (by omega)) ⟨vp_in_nI ht (by decide), nm_r (e' := a9 t) (by rw [nI_clamp (by omega)]) H⟩
theorem rl_29_end {fr fc fl fn fb fe fd fw : Int32} {a1 a2 a3 a4 a5 a6 a7 a8 a9 a10 a11 a12 a13 a14 a15 a16 a17 a18 a19 : Nat → Int32} {post : St2 → Prop} {b s n : Nat} {lab : Int32} (hb : b < 10) (hs : s ≤ 3) (e1 : a1 b = nI s) (hg : rl_goes a5 a6 a7 a9 a17 b lab) (H : post (fr, fc, fl, fn, lab, fe, fd, fw, a1, a2, a3, a4, a5, a6, a7, a8, a9, a10, a11, a12, a13, a14, a15, a16, a17, a18, a19)) :
    wX_enter_29 post (nI b) (n + 1) (nI (b * 3 + s)) fr fc fl fn fb fe fd fw a1 a2 a3 a4 a5 a6 a7 a8 a9 a10 a11 a12 a13 a14 a15 a16 a17 a18 a19 := by
  obtain ⟨nx, h1, h2⟩ := hg
  have K := rl_91 (fb := fb) h2 H
  have hcb : (nI b).toNatClampNeg = b := nI_clamp (by omega)
  have hib : vp_in (nI b) 10 := vp_in_nI hb (by decide)
  have e : nI b * 3 + a1 (nI b).toNatClampNeg = nI (b * 3 + s) := by
    rw [hcb, e1, show (3 : Int32) = nI 3 from rfl, pk_mul, nI_add]
  unfold wX_enter_29
  refine ⟨hib, br_t (by rw [e]; exact nI_le (Nat.le_refl _) (by omega)) ⟨hib, ?_⟩⟩
  rw [hcb]
  rcases h1 with ⟨h5, rfl⟩ | ⟨v, hv, h5, h6⟩
  · exact nm_e ⟨hib, br_t (by rw [h5]; decide) K⟩
  · have hcv : (a5 b).toNatClampNeg = v := by rw [h5]; exact nI_clamp (by omega)
    rw [hcv]
    refine nm_e ⟨hib, br_f (by rw [h5]; exact nI_pos (by omega)) ⟨hib, by rw [h5]; exact vp_in_nI hv (by decide), ?_⟩⟩
    rcases h6 with ⟨h6, rfl⟩ | ⟨h6, rfl⟩
    · exact br_t h6 K
    · exact br_f h6 ⟨hib, nm_e K⟩
theorem rl_29_go {b s i : Nat} {a1 : Nat → Int32} (hb : b < 10) (hs : s ≤ 3) (e1 : a1 b = nI s) (hi : i < b * 3 + s) : ¬ nI b * 3 + a1 (nI b).toNatClampNeg ≤ nI i := by
  rw [nI_clamp (show b < 2 ^ 31 by omega), e1, show (3 : Int32) = nI 3 from rfl, pk_mul, nI_add]
  exact nI_ge hi (by omega)
theorem rl_enter0 {fr fc fl fn fb fd fw : Int32} {a1 a2 a3 a4 a5 a6 a7 a8 a9 a10 a11 a12 a13 a14 a15 a16 a17 a18 a19 : Nat → Int32} {post : St2 → Prop} {b e : Nat} (hb : b < 10)
    (H : ∀ b18, b18 = upd a18 b (a18 b + 1) → ∃ n, wX_enter_29 post (nI b) n (nI (b * 3)) fr fc fl fn fb (nI (e + 1)) (nI b) fw a1 a2 a3 a4 a5 a6 a7 a8 a9 a10 a11 a12 a13 a14 a15 a16 a17 b18 a19) : wpX_enter post (fr, fc, fl, fn, fb, (nI e), fd, fw, a1, a2, a3, a4, a5, a6, a7, a8, a9, a10, a11, a12, a13, a14, a15, a16, a17, a18, a19) (nI b) := by
  have hcb : (nI b).toNatClampNeg = b := nI_clamp (by omega)
  have hib : vp_in (nI b) 10 := vp_in_nI hb (by decide)
  have e3 : nI b * 3 = nI (b * 3) := pk_mul b 3
  unfold wpX_enter
  dsimp only
  refine nm_r (nI_1 e) ⟨hib, hib, fun b18 e18 => nm_r e3 (H _ ?_)⟩
  rw [e18, hcb]
/-- a block of one output -/
theorem rl_en1 {fr fc fl fn fb fd : Int32} {a1 a2 a3 a4 a5 a6 a7 a8 a9 a10 a11 a12 a13 a14 a15 a16 a17 a18 a19 : Nat → Int32} {post : St2 → Prop} {b v w e : Nat} {lab : Int32} (hb : b < 10) (hv : v < 4) (hw : w < 1000) (h1 : a1 b = nI 1) (h2 : a2 (b * 3) = nI 5) (h3 : a3 (b * 3) = nI v) (hg : rl_goes a5 a6 a7 a9 a17 b lab)
    (H : ∀ b18 b19, b18 = upd a18 b (a18 b + 1) → b19 = upd a19 (w % 16) (a17 v) → post (fr, fc, fl, fn, lab, (nI (e + 1)), (nI b), (nI (w + 1)), a1, a2, a3, a4, a5, a6, a7, a8, a9, a10, a11, a12, a13, a14, a15, a16, a17, b18, b19)) : wpX_enter post (fr, fc, fl, fn, fb, (nI e), fd, (nI w), a1, a2, a3, a4, a5, a6, a7, a8, a9, a10, a11, a12, a13, a14, a15, a16, a17, a18, a19) (nI b) := by
  have hib : vp_in (nI b) 10 := vp_in_nI hb (by decide)
  refine rl_enter0 hb (fun b18 e18 => ⟨2, hib, br_f (rl_29_go (s := 1) hb (by decide) h1 (by omega)) (rl_co5 (by omega) hv hw h2 h3 (fun b19 e19 => nm_r (e' := nI (b * 3 + 1)) (nI_1 _) ?_))⟩)
  exact rl_29_end (n := 0) hb (by decide) h1 hg (H _ _ e18 e19)
/-- the block p: two assignments -/
theorem rl_enP {fr fc fl fn fb fd fw : Int32} {a1 a2 a3 a4 a5 a6 a7 a8 a9 a10 a11 a12 a13 a14 a15 a16 a17 a18 a19 : Nat → Int32} {post : St2 → Prop} {b e : Nat} {x lab : Int32} (hb : b < 10) (h1 : a1 b = nI 2) (h2 : a2 (b * 3) = nI 0 ∧ a3 (b * 3) = nI 1 ∧ a4 (b * 3) = x) (h3 : a2 (b * 3 + 1) = nI 4 ∧ a3 (b * 3 + 1) = nI 0 ∧ a4 (b * 3 + 1) = -1)
    (hg : ∀ b17, rl_goes a5 a6 a7 a9 b17 b lab)
    (H : ∀ b17 b18, b17 = upd (upd a17 1 x) 0 (a17 0 + (-1)) → b18 = upd a18 b (a18 b + 1) → post (fr, fc, fl, fn, lab, (nI (e + 1)), (nI b), fw, a1, a2, a3, a4, a5, a6, a7, a8, a9, a10, a11, a12, a13, a14, a15, a16, b17, b18, a19)) : wpX_enter post (fr, fc, fl, fn, fb, (nI e), fd, fw, a1, a2, a3, a4, a5, a6, a7, a8, a9, a10, a11, a12, a13, a14, a15, a16, a17, a18, a19) (nI b) := by
  have hib : vp_in (nI b) 10 := vp_in_nI hb (by decide)
  refine rl_enter0 hb (fun b18 e18 => ⟨3, hib, br_f (rl_29_go (s := 2) hb (by decide) h1 (by omega)) (rl_co0 (by omega) (by decide) h2.1 h2.2.1 h2.2.2 (fun b17 e17 => nm_r (e' := nI (b * 3 + 1)) (nI_1 _) ?_))⟩)
  refine ⟨hib, br_f (rl_29_go (s := 2) hb (by decide) h1 (by omega)) (rl_co4 (by omega) (by decide) h3.1 h3.2.1 h3.2.2 (fun c17 f17 => nm_r (e' := nI (b * 3 + 2)) (nI_1 _) ?_))⟩
  exact rl_29_end (n := 0) hb (by decide) h1 (hg c17) (H _ _ (by rw [f17, e17, pk_un (by decide)]) e18)
/-- the block q: two assignments -/
theorem rl_enQ {fr fc fl fn fb fd fw : Int32} {a1 a2 a3 a4 a5 a6 a7 a8 a9 a10 a11 a12 a13 a14 a15 a16 a17 a18 a19 : Nat → Int32} {post : St2 → Prop} {b e : Nat} {lab : Int32} (hb : b < 10) (h1 : a1 b = nI 2) (h2 : a2 (b * 3) = nI 1 ∧ a3 (b * 3) = nI 2 ∧ a4 (b * 3) = nI 3) (h3 : a2 (b * 3 + 1) = nI 4 ∧ a3 (b * 3 + 1) = nI 1 ∧ a4 (b * 3 + 1) = -1)
    (hg : ∀ b17 : Nat → Int32, b17 1 = a17 1 + (-1) → rl_goes a5 a6 a7 a9 b17 b lab)
    (H : ∀ b17 b18, b17 = upd (upd a17 2 (a17 2 + a17 3)) 1 (a17 1 + (-1)) → b18 = upd a18 b (a18 b + 1) → post (fr, fc, fl, fn, lab, (nI (e + 1)), (nI b), fw, a1, a2, a3, a4, a5, a6, a7, a8, a9, a10, a11, a12, a13, a14, a15, a16, b17, b18, a19)) : wpX_enter post (fr, fc, fl, fn, fb, (nI e), fd, fw, a1, a2, a3, a4, a5, a6, a7, a8, a9, a10, a11, a12, a13, a14, a15, a16, a17, a18, a19) (nI b) := by
  have hib : vp_in (nI b) 10 := vp_in_nI hb (by decide)
  refine rl_enter0 hb (fun b18 e18 => ⟨3, hib, br_f (rl_29_go (s := 2) hb (by decide) h1 (by omega)) (rl_co1 (by omega) (by decide) (by decide) h2.1 h2.2.1 h2.2.2 (fun b17 e17 => nm_r (e' := nI (b * 3 + 1)) (nI_1 _) ?_))⟩)
  refine ⟨hib, br_f (rl_29_go (s := 2) hb (by decide) h1 (by omega)) (rl_co4 (by omega) (by decide) h3.1 h3.2.1 h3.2.2 (fun c17 f17 => nm_r (e' := nI (b * 3 + 2)) (nI_1 _) ?_))⟩
  have k1 : c17 1 = a17 1 + (-1) := by simp [f17, e17, upd]
  exact rl_29_end (n := 0) hb (by decide) h1 (hg c17 k1) (H _ _ (by rw [f17, e17, pk_un (by decide)]) e18)
end
section
/-! the run of the structured code, word by word, against a picture: four variables, four counts, the outputs -/
/-- the blocks' assignments and tests -/
def rl_G (p q r m : Nat) (a1 a2 a3 a4 a5 : Nat → Int32) : Prop :=
  (a1 0 = nI 1 ∧ a1 p = nI 2 ∧ a1 q = nI 2 ∧ a1 r = nI 1) ∧
  (a2 (0 * 3) = nI 5 ∧ a3 (0 * 3) = nI 0) ∧
  (a2 (p * 3) = nI 0 ∧ a3 (p * 3) = nI 1 ∧ a4 (p * 3) = nI m) ∧
  (a2 (p * 3 + 1) = nI 4 ∧ a3 (p * 3 + 1) = nI 0 ∧ a4 (p * 3 + 1) = -1) ∧
  (a2 (q * 3) = nI 1 ∧ a3 (q * 3) = nI 2 ∧ a4 (q * 3) = nI 3) ∧
  (a2 (q * 3 + 1) = nI 4 ∧ a3 (q * 3 + 1) = nI 1 ∧ a4 (q * 3 + 1) = -1) ∧
  (a2 (r * 3) = nI 5 ∧ a3 (r * 3) = nI 2) ∧
  (a5 0 = nI 0 ∧ a5 p = -1 ∧ a5 q = nI 1 ∧ a5 r = -1)
/-- all that a run finds and leaves as it is -/
def rl_H (p q r m : Nat) (a1 a2 a3 a4 a5 a6 a7 a8 a9 a12 a13 a14 a15 a16 : Nat → Int32) : Prop :=
  ((1 ≤ p ∧ p < 4) ∧ (4 ≤ q ∧ q < 7) ∧ (7 ≤ r ∧ r < 10)) ∧ rl_G p q r m a1 a2 a3 a4 a5 ∧ rl_E p q r a6 a7 ∧ rl_P p q r a8 a9 ∧ rl_L a12 a13 ∧ rl_W a14 a15 a16
def rl_V (a17 : Nat → Int32) (v0 v1 v2 v3 : Int32) : Prop := a17 0 = v0 ∧ a17 1 = v1 ∧ a17 2 = v2 ∧ a17 3 = v3
def rl_S (p q r : Nat) (a18 : Nat → Int32) (s0 sp sq sr : Nat) : Prop := a18 0 = nI s0 ∧ a18 p = nI sp ∧ a18 q = nI sq ∧ a18 r = nI sr
def rl_R (post : Int32 → St2 → Prop) (p q r : Nat) (fr fc fl fn : Int32) (a1 a2 a3 a4 a5 a6 a7 a8 a9 a10 a11 a12 a13 a14 a15 a16 : Nat → Int32)
    (pc st : Nat) (lab : Int32) (ent : Nat) (fd : Int32) (wr : Nat) (v0 v1 v2 v3 : Int32) (s0 sp sq sr : Nat) (g : Nat → Int32) : Prop :=
  ∀ a17 a18, rl_V a17 v0 v1 v2 v3 → rl_S p q r a18 s0 sp sq sr → ∃ n, wX_run_44 post n (nI pc) (nI st) fr fc fl fn lab (nI ent) fd (nI wr) a1 a2 a3 a4 a5 a6 a7 a8 a9 a10 a11 a12 a13 a14 a15 a16 a17 a18 g
section
variable {post : Int32 → St2 → Prop} {p q r m : Nat} {fr fc fl : Int32} {a1 a2 a3 a4 a5 a6 a7 a8 a9 a10 a11 a12 a13 a14 a15 a16 : Nat → Int32}
variable {pc st ent wr s0 sp sq sr : Nat} {lab fd v0 v1 v2 v3 : Int32} {g : Nat → Int32}
/-- a word that begins a loop -/
theorem rl_st0 (hst : st < 20000) (hpc : pc < 8) (he : ent < 300) (hl : ¬ lab < 0) (h14 : a14 pc = 0)
    (K : rl_R post p q r fr fc fl (nI 8) a1 a2 a3 a4 a5 a6 a7 a8 a9 a10 a11 a12 a13 a14 a15 a16 (pc + 1) (st + 1) lab ent fd wr v0 v1 v2 v3 s0 sp sq sr g) :
    rl_R post p q r fr fc fl (nI 8) a1 a2 a3 a4 a5 a6 a7 a8 a9 a10 a11 a12 a13 a14 a15 a16 pc st lab ent fd wr v0 v1 v2 v3 s0 sp sq sr g := by
  intro a17 a18 hv hs
  obtain ⟨n, h⟩ := K a17 a18 hv hs
  have hc : (nI pc).toNatClampNeg = pc := nI_clamp (by omega)
  have hi : vp_in (nI pc) 64 := vp_in_nI (by omega) (by decide)
  refine ⟨n + 1, br_f (nI_ge (b := 20000) hst (by decide)) (br_f (nI_ge hpc (by decide)) (br_f hl (br_f (nI_ge (b := 300) he (by decide)) ⟨hi, ?_⟩)))⟩
  unfold wpX_perform
  dsimp only
  rw [hc, h14]
  exact ⟨hi, br_f (by decide) ⟨hi, br_f (by decide) (nm_r (nI_1 st) (by rw [nI_1 pc]; exact h))⟩⟩
/-- a block that is passed over -/
theorem rl_st1 (hst : st < 20000) (hpc : pc < 8) (he : ent < 300) (hl : ¬ lab < 0) (h14 : a14 pc = 1) (h15 : ¬ lab = a15 pc)
    (K : rl_R post p q r fr fc fl (nI 8) a1 a2 a3 a4 a5 a6 a7 a8 a9 a10 a11 a12 a13 a14 a15 a16 (pc + 1) (st + 1) lab ent fd wr v0 v1 v2 v3 s0 sp sq sr g) :
    rl_R post p q r fr fc fl (nI 8) a1 a2 a3 a4 a5 a6 a7 a8 a9 a10 a11 a12 a13 a14 a15 a16 pc st lab ent fd wr v0 v1 v2 v3 s0 sp sq sr g := by
  intro a17 a18 hv hs
  obtain ⟨n, h⟩ := K a17 a18 hv hs
  have hc : (nI pc).toNatClampNeg = pc := nI_clamp (by omega)
  have hi : vp_in (nI pc) 64 := vp_in_nI (by omega) (by decide)
  refine ⟨n + 1, br_f (nI_ge (b := 20000) hst (by decide)) (br_f (nI_ge hpc (by decide)) (br_f hl (br_f (nI_ge (b := 300) he (by decide)) ⟨hi, ?_⟩)))⟩
  unfold wpX_perform
  dsimp only
  rw [hc, h14]
  exact ⟨hi, br_t rfl (br_f h15 (nm_r (nI_1 st) (by rw [nI_1 pc]; exact h)))⟩
/-- the end of a loop that is repeated -/
theorem rl_st2 {l t u k s : Nat} (hst : st < 20000) (hpc : pc < 8) (he : ent < 300) (h14 : a14 pc = 2) (h15 : a15 pc = nI l) (hl : l < 20) (h12 : a12 l = nI t) (h13 : a13 l = nI u) (h16 : a16 l = nI s) (ht : t ≤ k) (hu : k ≤ u) (hu' : u < 100)
    (K : rl_R post p q r fr fc fl (nI 8) a1 a2 a3 a4 a5 a6 a7 a8 a9 a10 a11 a12 a13 a14 a15 a16 (s + 1) (st + 1) (nI k) ent fd wr v0 v1 v2 v3 s0 sp sq sr g) :
    rl_R post p q r fr fc fl (nI 8) a1 a2 a3 a4 a5 a6 a7 a8 a9 a10 a11 a12 a13 a14 a15 a16 pc st (nI k) ent fd wr v0 v1 v2 v3 s0 sp sq sr g := by
  intro a17 a18 hv hs
  obtain ⟨n, h⟩ := K a17 a18 hv hs
  have hc : (nI pc).toNatClampNeg = pc := nI_clamp (by omega)
  have hcl : (nI l).toNatClampNeg = l := nI_clamp (by omega)
  have hi : vp_in (nI pc) 64 := vp_in_nI (by omega) (by decide)
  have hil : vp_in (nI l) 20 := vp_in_nI (by omega) (by decide)
  refine ⟨n + 1, br_f (nI_ge (b := 20000) hst (by decide)) (br_f (nI_ge hpc (by decide)) (br_f (nI_pos (by omega)) (br_f (nI_ge (b := 300) he (by decide)) ⟨hi, ?_⟩)))⟩
  unfold wpX_perform
  dsimp only
  rw [hc, h14, h15, hcl, h12, h13, h16]
  exact ⟨hi, br_f (by decide) ⟨hi, br_t rfl ⟨hil, br_f (nI_nlt ht (by omega)) ⟨hil, br_f (nI_nlt hu (by omega)) ⟨hil, nm_r (nI_1 st) (by rw [nI_1 s]; exact h)⟩⟩⟩⟩⟩
/-- the end of a loop that isn't -/
theorem rl_st3 {l t k : Nat} (hst : st < 20000) (hpc : pc < 8) (he : ent < 300) (h14 : a14 pc = 2) (h15 : a15 pc = nI l) (hl : l < 20) (h12 : a12 l = nI t) (ht : k < t) (ht' : t < 100)
    (K : rl_R post p q r fr fc fl (nI 8) a1 a2 a3 a4 a5 a6 a7 a8 a9 a10 a11 a12 a13 a14 a15 a16 (pc + 1) (st + 1) (nI k) ent fd wr v0 v1 v2 v3 s0 sp sq sr g) :
    rl_R post p q r fr fc fl (nI 8) a1 a2 a3 a4 a5 a6 a7 a8 a9 a10 a11 a12 a13 a14 a15 a16 pc st (nI k) ent fd wr v0 v1 v2 v3 s0 sp sq sr g := by
  intro a17 a18 hv hs
  obtain ⟨n, h⟩ := K a17 a18 hv hs
  have hc : (nI pc).toNatClampNeg = pc := nI_clamp (by omega)
  have hcl : (nI l).toNatClampNeg = l := nI_clamp (by omega)
  have hi : vp_in (nI pc) 64 := vp_in_nI (by omega) (by decide)
  have hil : vp_in (nI l) 20 := vp_in_nI (by omega) (by decide)
  refine ⟨n + 1, br_f (nI_ge (b := 20000) hst (by decide)) (br_f (nI_ge hpc (by decide)) (br_f (nI_pos (by omega)) (br_f (nI_ge (b := 300) he (by decide)) ⟨hi, ?_⟩)))⟩
  unfold wpX_perform
  dsimp only
  rw [hc, h14, h15, hcl, h12]
  exact ⟨hi, br_f (by decide) ⟨hi, br_t rfl ⟨hil, br_t (nI_lt ht (by omega)) (nm_r (nI_1 st) (by rw [nI_1 pc]; exact h))⟩⟩⟩
/-- the block 0 is entered -/
theorem rl_c0 (hst : st < 20000) (he : ent < 300) (hw : wr < 1000) (hH : rl_H p q r m a1 a2 a3 a4 a5 a6 a7 a8 a9 a12 a13 a14 a15 a16) {lab' : Int32} (hlab : (0 < v0 ∧ lab' = nI 2) ∨ (¬ 0 < v0 ∧ lab' = nI 1))
    (K : rl_R post p q r fr fc fl (nI 8) a1 a2 a3 a4 a5 a6 a7 a8 a9 a10 a11 a12 a13 a14 a15 a16 2 (st + 1) lab' (ent + 1) (nI 0) (wr + 1) v0 v1 v2 v3 (s0 + 1) sp sq sr (upd g (wr % 16) v0)) :
    rl_R post p q r fr fc fl (nI 8) a1 a2 a3 a4 a5 a6 a7 a8 a9 a10 a11 a12 a13 a14 a15 a16 1 st (nI 0) ent fd wr v0 v1 v2 v3 s0 sp sq sr g := by
  intro a17 a18 hv hs
  obtain ⟨⟨⟨p1, p2⟩, ⟨q1, q2⟩, ⟨r1, r2⟩⟩, ⟨⟨g1, g2, g3, g4⟩, ⟨gb, gc⟩, gd, ge, gf, gg, gh, ⟨t0, t1, t2, t3⟩⟩, ⟨E1, E2, E3, E4, E5, E6, E7, E8⟩, ⟨P1, P2, P3, P4, P5, P6, P7, P8⟩, hL, ⟨⟨w0, w1, w2, w3, w4, w5, w6, w7⟩, ⟨x1, x2, x3, x5, x6, x7⟩, y0, y1⟩⟩ := hH
  obtain ⟨n, h⟩ := K a17 (upd a18 0 (a18 0 + 1)) hv ⟨by rw [pk_us, hs.1, nI_1], by rw [pk_un (by omega), hs.2.1], by rw [pk_un (by omega), hs.2.2.1], by rw [pk_un (by omega), hs.2.2.2]⟩
  have hc : (nI 1).toNatClampNeg = 1 := nI_clamp (by omega)
  have hc0 : (nI 0).toNatClampNeg = 0 := nI_clamp (by omega)
  have hi : vp_in (nI 1) 64 := vp_in_nI (by omega) (by decide)
  have hg : rl_goes a5 a6 a7 a9 a17 0 lab' := by
    rcases hlab with ⟨hl, rfl⟩ | ⟨hl, rfl⟩
    · exact ⟨nI p, Or.inr ⟨0, by decide, t0, Or.inl ⟨by rw [hv.1]; exact hl, E1⟩⟩, Or.inr ⟨p, by omega, rfl, P7⟩⟩
    · exact ⟨nI r, Or.inr ⟨0, by decide, t0, Or.inr ⟨by rw [hv.1]; exact hl, E5⟩⟩, Or.inr ⟨r, by omega, rfl, P6⟩⟩
  refine ⟨n + 1, br_f (nI_ge (b := 20000) hst (by decide)) (br_f (nI_ge (a := 1) (by decide) (by decide)) (br_f (nI_pos (by decide)) (br_f (nI_ge (b := 300) he (by decide)) ⟨hi, ?_⟩)))⟩
  unfold wpX_perform
  dsimp only
  rw [hc, w1, x1, hc0, P1]
  refine ⟨hi, br_t rfl (br_t rfl ⟨vp_in_nI (by decide) (by decide), rl_en1 (b := 0) (v := 0) (by decide) (by decide) hw g1 gb gc hg (fun b18 b19 e18 e19 => ?_)⟩)⟩
  subst e18 e19
  dsimp only
  rw [hv.1]
  exact nm_r (nI_1 st) h
/-- the block r is entered -/
theorem rl_cr (hst : st < 20000) (he : ent < 300) (hw : wr < 1000) (hH : rl_H p q r m a1 a2 a3 a4 a5 a6 a7 a8 a9 a12 a13 a14 a15 a16)
    (K : rl_R post p q r fr fc fl (nI 8) a1 a2 a3 a4 a5 a6 a7 a8 a9 a10 a11 a12 a13 a14 a15 a16 3 (st + 1) (-1) (ent + 1) (nI r) (wr + 1) v0 v1 v2 v3 s0 sp sq (sr + 1) (upd g (wr % 16) v2)) :
    rl_R post p q r fr fc fl (nI 8) a1 a2 a3 a4 a5 a6 a7 a8 a9 a10 a11 a12 a13 a14 a15 a16 2 st (nI 1) ent fd wr v0 v1 v2 v3 s0 sp sq sr g := by
  intro a17 a18 hv hs
  obtain ⟨⟨⟨p1, p2⟩, ⟨q1, q2⟩, ⟨r1, r2⟩⟩, ⟨⟨g1, g2, g3, g4⟩, ⟨gb, gc⟩, gd, ge, gf, gg, gh, ⟨t0, t1, t2, t3⟩⟩, ⟨E1, E2, E3, E4, E5, E6, E7, E8⟩, ⟨P1, P2, P3, P4, P5, P6, P7, P8⟩, hL, ⟨⟨w0, w1, w2, w3, w4, w5, w6, w7⟩, ⟨x1, x2, x3, x5, x6, x7⟩, y0, y1⟩⟩ := hH
  obtain ⟨n, h⟩ := K a17 (upd a18 r (a18 r + 1)) hv ⟨by rw [pk_un (by omega), hs.1], by rw [pk_un (by omega), hs.2.1], by rw [pk_un (by omega), hs.2.2.1], by rw [pk_us, hs.2.2.2, nI_1]⟩
  have hc : (nI 2).toNatClampNeg = 2 := nI_clamp (by omega)
  have hc1 : (nI 1).toNatClampNeg = 1 := nI_clamp (by omega)
  have hi : vp_in (nI 2) 64 := vp_in_nI (by omega) (by decide)
  have hg : rl_goes a5 a6 a7 a9 a17 r (-1) := ⟨-1, Or.inl ⟨t3, E4⟩, Or.inl ⟨rfl, rfl⟩⟩
  refine ⟨n + 1, br_f (nI_ge (b := 20000) hst (by decide)) (br_f (nI_ge (a := 2) (by decide) (by decide)) (br_f (nI_pos (by decide)) (br_f (nI_ge (b := 300) he (by decide)) ⟨hi, ?_⟩)))⟩
  unfold wpX_perform
  dsimp only
  rw [hc, w2, x2, hc1, P2]
  refine ⟨hi, br_t rfl (br_t rfl ⟨vp_in_nI (by decide) (by decide), rl_en1 (b := r) (v := 2) (by omega) (by decide) hw g4 gh.1 gh.2 hg (fun b18 b19 e18 e19 => ?_)⟩)⟩
  subst e18 e19
  dsimp only
  rw [hv.2.2.1]
  exact nm_r (nI_1 st) h
/-- the block p is entered -/
theorem rl_cp (hst : st < 20000) (he : ent < 300) (hH : rl_H p q r m a1 a2 a3 a4 a5 a6 a7 a8 a9 a12 a13 a14 a15 a16)
    (K : rl_R post p q r fr fc fl (nI 8) a1 a2 a3 a4 a5 a6 a7 a8 a9 a10 a11 a12 a13 a14 a15 a16 4 (st + 1) (nI 3) (ent + 1) (nI p) wr (v0 + (-1)) (nI m) v2 v3 s0 (sp + 1) sq sr g) :
    rl_R post p q r fr fc fl (nI 8) a1 a2 a3 a4 a5 a6 a7 a8 a9 a10 a11 a12 a13 a14 a15 a16 3 st (nI 2) ent fd wr v0 v1 v2 v3 s0 sp sq sr g := by
  intro a17 a18 hv hs
  obtain ⟨⟨⟨p1, p2⟩, ⟨q1, q2⟩, ⟨r1, r2⟩⟩, ⟨⟨g1, g2, g3, g4⟩, ⟨gb, gc⟩, gd, ge, gf, gg, gh, ⟨t0, t1, t2, t3⟩⟩, ⟨E1, E2, E3, E4, E5, E6, E7, E8⟩, ⟨P1, P2, P3, P4, P5, P6, P7, P8⟩, hL, ⟨⟨w0, w1, w2, w3, w4, w5, w6, w7⟩, ⟨x1, x2, x3, x5, x6, x7⟩, y0, y1⟩⟩ := hH
  have hS : rl_S p q r (upd a18 p (a18 p + 1)) s0 (sp + 1) sq sr := ⟨by rw [pk_un (by omega), hs.1], by rw [pk_us, hs.2.1, nI_1], by rw [pk_un (by omega), hs.2.2.1], by rw [pk_un (by omega), hs.2.2.2]⟩
  have hc : (nI 3).toNatClampNeg = 3 := nI_clamp (by omega)
  have hc2 : (nI 2).toNatClampNeg = 2 := nI_clamp (by omega)
  have hi : vp_in (nI 3) 64 := vp_in_nI (by omega) (by decide)
  have hg : ∀ b17, rl_goes a5 a6 a7 a9 b17 p (nI 3) := fun b17 => ⟨nI q, Or.inl ⟨t1, E2⟩, Or.inr ⟨q, by omega, rfl, P8⟩⟩
  obtain ⟨n, h⟩ := K (upd (upd a17 1 (nI m)) 0 (a17 0 + (-1))) (upd a18 p (a18 p + 1)) ⟨by rw [pk_us, hv.1], by rw [pk_un (by decide), pk_us], by rw [pk_un (by decide), pk_un (by decide), hv.2.2.1], by rw [pk_un (by decide), pk_un (by decide), hv.2.2.2]⟩ hS
  refine ⟨n + 1, br_f (nI_ge (b := 20000) hst (by decide)) (br_f (nI_ge (a := 3) (by decide) (by decide)) (br_f (nI_pos (by decide)) (br_f (nI_ge (b := 300) he (by decide)) ⟨hi, ?_⟩)))⟩
  unfold wpX_perform
  dsimp only
  rw [hc, w3, x3, hc2, P3]
  refine ⟨hi, br_t rfl (br_t rfl ⟨vp_in_nI (by decide) (by decide), rl_enP (b := p) (by omega) g2 gd ge hg (fun b17 b18 e17 e18 => ?_)⟩)⟩
  subst e17 e18
  dsimp only
  exact nm_r (nI_1 st) h
/-- the block q is entered -/
theorem rl_cq (hst : st < 20000) (he : ent < 300) (hH : rl_H p q r m a1 a2 a3 a4 a5 a6 a7 a8 a9 a12 a13 a14 a15 a16) {lab' : Int32} (hlab : (0 < v1 + (-1) ∧ lab' = nI 3) ∨ (¬ 0 < v1 + (-1) ∧ lab' = nI 0))
    (K : rl_R post p q r fr fc fl (nI 8) a1 a2 a3 a4 a5 a6 a7 a8 a9 a10 a11 a12 a13 a14 a15 a16 6 (st + 1) lab' (ent + 1) (nI q) wr v0 (v1 + (-1)) (v2 + v3) v3 s0 sp (sq + 1) sr g) :
    rl_R post p q r fr fc fl (nI 8) a1 a2 a3 a4 a5 a6 a7 a8 a9 a10 a11 a12 a13 a14 a15 a16 5 st (nI 3) ent fd wr v0 v1 v2 v3 s0 sp sq sr g := by
  intro a17 a18 hv hs
  obtain ⟨⟨⟨p1, p2⟩, ⟨q1, q2⟩, ⟨r1, r2⟩⟩, ⟨⟨g1, g2, g3, g4⟩, ⟨gb, gc⟩, gd, ge, gf, gg, gh, ⟨t0, t1, t2, t3⟩⟩, ⟨E1, E2, E3, E4, E5, E6, E7, E8⟩, ⟨P1, P2, P3, P4, P5, P6, P7, P8⟩, hL, ⟨⟨w0, w1, w2, w3, w4, w5, w6, w7⟩, ⟨x1, x2, x3, x5, x6, x7⟩, y0, y1⟩⟩ := hH
  have hS : rl_S p q r (upd a18 q (a18 q + 1)) s0 sp (sq + 1) sr := ⟨by rw [pk_un (by omega), hs.1], by rw [pk_un (by omega), hs.2.1], by rw [pk_us, hs.2.2.1, nI_1], by rw [pk_un (by omega), hs.2.2.2]⟩
  have hc : (nI 5).toNatClampNeg = 5 := nI_clamp (by omega)
  have hc3 : (nI 3).toNatClampNeg = 3 := nI_clamp (by omega)
  have hi : vp_in (nI 5) 64 := vp_in_nI (by omega) (by decide)
  have hg : ∀ b17 : Nat → Int32, b17 1 = a17 1 + (-1) → rl_goes a5 a6 a7 a9 b17 q lab' := by
    intro b17 hb
    rcases hlab with ⟨hl, rfl⟩ | ⟨hl, rfl⟩
    · exact ⟨nI q, Or.inr ⟨1, by decide, t2, Or.inl ⟨by rw [hb, hv.2.1]; exact hl, E3⟩⟩, Or.inr ⟨q, by omega, rfl, P8⟩⟩
    · exact ⟨nI 0, Or.inr ⟨1, by decide, t2, Or.inr ⟨by rw [hb, hv.2.1]; exact hl, E7⟩⟩, Or.inr ⟨0, by omega, rfl, P5⟩⟩
  obtain ⟨n, h⟩ := K (upd (upd a17 2 (a17 2 + a17 3)) 1 (a17 1 + (-1))) (upd a18 q (a18 q + 1)) ⟨by rw [pk_un (by decide), pk_un (by decide), hv.1], by rw [pk_us, hv.2.1], by rw [pk_un (by decide), pk_us, hv.2.2.1, hv.2.2.2], by rw [pk_un (by decide), pk_un (by decide), hv.2.2.2]⟩ hS
  refine ⟨n + 1, br_f (nI_ge (b := 20000) hst (by decide)) (br_f (nI_ge (a := 5) (by decide) (by decide)) (br_f (nI_pos (by decide)) (br_f (nI_ge (b := 300) he (by decide)) ⟨hi, ?_⟩)))⟩
  unfold wpX_perform
  dsimp only
  rw [hc, w5, x5, hc3, P4]
  refine ⟨hi, br_t rfl (br_t rfl ⟨vp_in_nI (by decide) (by decide), rl_enQ (b := q) (by omega) g3 gf gg hg (fun b17 b18 e17 e18 => ?_)⟩)⟩
  subst e17 e18
  dsimp only
  exact nm_r (nI_1 st) h
/-- the run ends: nowhere to go -/
theorem rl_x1 (hst : st < 20000) (hpc : pc < 8) (H : ∀ a17 a18, rl_V a17 v0 v1 v2 v3 → rl_S p q r a18 s0 sp sq sr → post 1 (fr, fc, fl, nI 8, -1, nI ent, fd, nI wr, a1, a2, a3, a4, a5, a6, a7, a8, a9, a10, a11, a12, a13, a14, a15, a16, a17, a18, g)) :
    rl_R post p q r fr fc fl (nI 8) a1 a2 a3 a4 a5 a6 a7 a8 a9 a10 a11 a12 a13 a14 a15 a16 pc st (-1) ent fd wr v0 v1 v2 v3 s0 sp sq sr g := by
  intro a17 a18 hv hs
  refine ⟨1, br_f (nI_ge (b := 20000) hst (by decide)) (br_f (nI_ge hpc (by decide)) (br_t (by decide) ?_))⟩
  unfold wX_run_94
  exact br_f (by decide) (H _ _ hv hs)
/-- the run ends: 300 blocks -/
theorem rl_x2 (hst : st < 20000) (hpc : pc < 8) (H : ∀ a17 a18, rl_V a17 v0 v1 v2 v3 → rl_S p q r a18 s0 sp sq sr → post 2 (fr, fc, fl, nI 8, nI 0, nI 300, fd, nI wr, a1, a2, a3, a4, a5, a6, a7, a8, a9, a10, a11, a12, a13, a14, a15, a16, a17, a18, g)) :
    rl_R post p q r fr fc fl (nI 8) a1 a2 a3 a4 a5 a6 a7 a8 a9 a10 a11 a12 a13 a14 a15 a16 pc st (nI 0) 300 fd wr v0 v1 v2 v3 s0 sp sq sr g := by
  intro a17 a18 hv hs
  refine ⟨1, br_f (nI_ge (b := 20000) hst (by decide)) (br_f (nI_ge hpc (by decide)) (br_f (by decide) (br_t (by decide) ?_)))⟩
  unfold wX_run_94
  exact br_t (by decide) (H _ _ hv hs)
end
end
section
/-! the turns of the two loops -/
section
variable {post : Int32 → St2 → Prop} {p q r m : Nat} {fr fc fl : Int32} {a1 a2 a3 a4 a5 a6 a7 a8 a9 a10 a11 a12 a13 a14 a15 a16 : Nat → Int32}
/-- the inner loop: j + 1 turns -/
theorem rl_inner (hH : rl_H p q r m a1 a2 a3 a4 a5 a6 a7 a8 a9 a12 a13 a14 a15 a16) {wr s0 sp sr : Nat} {v0 v3 : Int32} {g : Nat → Int32} :
    ∀ (j st ent sq : Nat) (fd v2 : Int32), st + 2 * j < 20000 → ent + j < 300 →
    rl_R post p q r fr fc fl (nI 8) a1 a2 a3 a4 a5 a6 a7 a8 a9 a10 a11 a12 a13 a14 a15 a16 6 (st + 2 * j + 1) (nI 0) (ent + j + 1) (nI q) wr v0 (nI 0) (v2 + nI (j + 1) * v3) v3 s0 sp (sq + j + 1) sr g →
    rl_R post p q r fr fc fl (nI 8) a1 a2 a3 a4 a5 a6 a7 a8 a9 a10 a11 a12 a13 a14 a15 a16 5 st (nI 3) ent fd wr v0 (nI (j + 1)) v2 v3 s0 sp sq sr g := by
  intro j
  induction j with
  | zero =>
    intro st ent sq fd v2 hst he K
    have e : v2 + nI (0 + 1) * v3 = v2 + v3 := by
      rw [show nI (0 + 1) = 1 from rfl, Int32.one_mul]
    rw [e] at K
    refine rl_cq (by omega) (by omega) hH (lab' := nI 0) (Or.inr ⟨by rw [pk_m1]; decide, rfl⟩) ?_
    rw [pk_m1]
    exact K
  | succ j ih =>
    intro st ent sq fd v2 hst he K
    have hH' := hH
    obtain ⟨_, _, _, _, ⟨l1, l2, l3, l4⟩, ⟨⟨w0, w1, w2, w3, w4, w5, w6, w7⟩, ⟨x1, x2, x3, x5, x6, x7⟩, y0, y1⟩⟩ := hH'
    refine rl_cq (by omega) (by omega) hH (lab' := nI 3) (Or.inl ⟨by rw [pk_m1]; exact nI_lt (a := 0) (by omega) (by omega), rfl⟩) ?_
    rw [pk_m1]
    refine rl_st2 (l := 0) (t := 3) (u := 3) (k := 3) (s := 4) (by omega) (by decide) (by omega) w6 x6 (by decide) l1 l3 y0 (by decide) (by decide) (by decide) ?_
    refine ih (st + 1 + 1) (ent + 1) (sq + 1) (nI q) (v2 + v3) (by omega) (by omega) ?_
    have e : v2 + v3 + nI (j + 1) * v3 = v2 + nI (j + 1 + 1) * v3 := by
      rw [← nI_1 (j + 1), Int32.add_mul, Int32.one_mul, Int32.add_assoc, Int32.add_comm v3]
    rw [e, show st + 1 + 1 + 2 * j + 1 = st + 2 * (j + 1) + 1 by omega, show ent + 1 + j + 1 = ent + (j + 1) + 1 by omega, show sq + 1 + j + 1 = sq + (j + 1) + 1 by omega]
    exact K
/-- one turn of the outer loop -/
theorem rl_turn (hH : rl_H p q r m a1 a2 a3 a4 a5 a6 a7 a8 a9 a12 a13 a14 a15 a16) (hm : 1 ≤ m) {st ent wr u s0 sp sq sr : Nat} {fd v1 v2 v3 : Int32} {g : Nat → Int32}
    (hst : st + 4 + 2 * m < 20000) (he : ent + 2 + m ≤ 300) (hw : wr < 1000) (hu : u < 1000)
    (K : rl_R post p q r fr fc fl (nI 8) a1 a2 a3 a4 a5 a6 a7 a8 a9 a10 a11 a12 a13 a14 a15 a16 6 (st + 3 + 2 * m) (nI 0) (ent + 2 + m) (nI q) (wr + 1) (nI u) (nI 0) (v2 + nI m * v3) v3 (s0 + 1) (sp + 1) (sq + m) sr (upd g (wr % 16) (nI (u + 1)))) :
    rl_R post p q r fr fc fl (nI 8) a1 a2 a3 a4 a5 a6 a7 a8 a9 a10 a11 a12 a13 a14 a15 a16 1 st (nI 0) ent fd wr (nI (u + 1)) v1 v2 v3 s0 sp sq sr g := by
  obtain ⟨m', rfl⟩ : ∃ m', m = m' + 1 := ⟨m - 1, by omega⟩
  have hH' := hH
  obtain ⟨_, _, _, _, ⟨l1, l2, l3, l4⟩, ⟨⟨w0, w1, w2, w3, w4, w5, w6, w7⟩, ⟨x1, x2, x3, x5, x6, x7⟩, y0, y1⟩⟩ := hH'
  refine rl_c0 (by omega) (by omega) hw hH (lab' := nI 2) (Or.inl ⟨nI_lt (a := 0) (by omega) (by omega), rfl⟩) ?_
  refine rl_st1 (by omega) (by decide) (by omega) (by decide) w2 (by rw [x2]; decide) ?_
  refine rl_cp (by omega) (by omega) hH ?_
  rw [pk_m1]
  refine rl_st0 (by omega) (by decide) (by omega) (by decide) w4 ?_
  refine rl_inner hH m' _ _ _ _ _ (by omega) (by omega) ?_
  rw [show st + 1 + 1 + 1 + 1 + 2 * m' + 1 = st + 3 + 2 * (m' + 1) by omega, show ent + 1 + 1 + m' + 1 = ent + 2 + (m' + 1) by omega]
  exact K
/-- from the end of a turn to the next one -/
theorem rl_back (hH : rl_H p q r m a1 a2 a3 a4 a5 a6 a7 a8 a9 a12 a13 a14 a15 a16) {st ent wr s0 sp sq sr : Nat} {fd v0 v1 v2 v3 : Int32} {g : Nat → Int32}
    (hst : st + 1 < 20000) (he : ent < 300)
    (K : rl_R post p q r fr fc fl (nI 8) a1 a2 a3 a4 a5 a6 a7 a8 a9 a10 a11 a12 a13 a14 a15 a16 1 (st + 2) (nI 0) ent fd wr v0 v1 v2 v3 s0 sp sq sr g) :
    rl_R post p q r fr fc fl (nI 8) a1 a2 a3 a4 a5 a6 a7 a8 a9 a10 a11 a12 a13 a14 a15 a16 6 st (nI 0) ent fd wr v0 v1 v2 v3 s0 sp sq sr g := by
  have hH' := hH
  obtain ⟨_, _, _, _, ⟨l1, l2, l3, l4⟩, ⟨⟨w0, w1, w2, w3, w4, w5, w6, w7⟩, ⟨x1, x2, x3, x5, x6, x7⟩, y0, y1⟩⟩ := hH'
  refine rl_st3 (l := 0) (t := 3) (k := 0) (by omega) (by decide) (by omega) w6 x6 (by decide) l1 (by decide) (by decide) ?_
  exact rl_st2 (l := 1) (t := 0) (u := 3) (k := 0) (s := 0) (by omega) (by decide) (by omega) w7 x7 (by decide) l2 l4 y1 (by decide) (by decide) (by decide) K
/-- what the law asks for where the run has stopped -/
def rl_Z1 (p q r n m : Nat) (z : Int32) (a17 a18 a19 : Nat → Int32) : Prop :=
  (a17 0 = nI 0 ∧ a17 2 = nI (n * m) * z) ∧ rl_S p q r a18 (n + 1) n (n * m) 1 ∧
  (a19 ((n + 1) % 16) = nI (n * m) * z ∧ a19 (n % 16) = nI 0 ∧ (1 ≤ n → a19 ((n - 1) % 16) = nI 1))
/-- and where it was cut off -/
def rl_Z2 (p q r n : Nat) (z : Int32) (a17 a18 : Nat → Int32) : Prop :=
  (a17 0 = nI (n - 50) ∧ a17 2 = nI 200 * z) ∧ rl_S p q r a18 50 50 200 0
theorem rl_ends {k m : Nat} (hm : 1 ≤ m) (hm' : m ≤ 4) (hk : k < 60) (h : k * (2 + m) < 300) : k * (2 + m) + 2 ≤ 300 ∧ k * (2 + m) + (2 + m) ≤ 300 := by
  rcases (show m = 1 ∨ m = 2 ∨ m = 3 ∨ m = 4 by omega) with rfl | rfl | rfl | rfl <;> omega
theorem rl_cuts {k m : Nat} (hm : 1 ≤ m) (hm' : m ≤ 4) (hk : k < 59) (h : k * (2 + m) < 300) (h' : ¬ (k + 1) * (2 + m) < 300) : m = 4 ∧ k = 49 := by
  rcases (show m = 1 ∨ m = 2 ∨ m = 3 ∨ m = 4 by omega) with rfl | rfl | rfl | rfl <;> omega
theorem rl_outer (hH : rl_H p q r m a1 a2 a3 a4 a5 a6 a7 a8 a9 a12 a13 a14 a15 a16) (hm : 1 ≤ m) (hm' : m ≤ 4) {n : Nat} (hn : n < 60) {z : Int32}
    (H1 : n * (2 + m) + 2 ≤ 300 → ∀ ent a17 a18 a19, rl_Z1 p q r n m z a17 a18 a19 → post 1 (fr, fc, fl, nI 8, -1, nI ent, nI r, nI (n + 2), a1, a2, a3, a4, a5, a6, a7, a8, a9, a10, a11, a12, a13, a14, a15, a16, a17, a18, a19))
    (H2 : m = 4 → 50 ≤ n → ∀ w a17 a18 a19, rl_Z2 p q r n z a17 a18 → post 2 (fr, fc, fl, nI 8, nI 0, nI 300, nI q, nI w, a1, a2, a3, a4, a5, a6, a7, a8, a9, a10, a11, a12, a13, a14, a15, a16, a17, a18, a19)) :
    ∀ (u k st : Nat) (fd v1 : Int32) (g : Nat → Int32), k + u = n → st + 20 * u < 10000 → k * (2 + m) < 300 → (1 ≤ k → g ((k - 1) % 16) = nI (u + 1)) →
    rl_R post p q r fr fc fl (nI 8) a1 a2 a3 a4 a5 a6 a7 a8 a9 a10 a11 a12 a13 a14 a15 a16 1 st (nI 0) (k * (2 + m)) fd k (nI u) v1 (nI (k * m) * z) z k k (k * m) 0 g := by
  intro u
  induction u with
  | zero =>
    intro k st fd v1 g hk hst he hg
    have hkn : k = n := by omega
    subst hkn
    have hb := rl_ends hm hm' hn he
    refine rl_c0 (by omega) (by omega) (by omega) hH (lab' := nI 1) (Or.inr ⟨by decide, rfl⟩) ?_
    refine rl_cr (by omega) (by omega) (by omega) hH ?_
    refine rl_x1 (by omega) (by decide) (fun a17 a18 hv hs => H1 hb.1 _ _ _ _ ⟨⟨hv.1, hv.2.2.1⟩, hs, pk_us, ?_, fun h1 => ?_⟩)
    · rw [pk_un (by omega), pk_us]
    · rw [pk_un (by omega), pk_un (by omega)]
      exact hg h1
  | succ u ih =>
    intro k st fd v1 g hk hst he hg
    have hb := rl_ends hm hm' (by omega) he
    refine rl_turn hH hm (by omega) (by omega) (by omega) (by omega) ?_
    have e1 : k * (2 + m) + 2 + m = (k + 1) * (2 + m) := by rw [Nat.succ_mul]; omega
    have e2 : k * m + m = (k + 1) * m := (Nat.succ_mul k m).symm
    have e3 : nI (k * m) * z + nI m * z = nI ((k + 1) * m) * z := by rw [← Int32.add_mul, nI_add, e2]
    rw [e1, e2, e3]
    by_cases h3 : (k + 1) * (2 + m) < 300
    · refine rl_back hH (by omega) h3 ?_
      refine ih (k + 1) _ _ _ _ (by omega) (by omega) h3 (fun _ => ?_)
      rw [Nat.add_sub_cancel, pk_us]
    · obtain ⟨rfl, rfl⟩ := rl_cuts hm hm' (by omega) he h3
      refine rl_x2 (by omega) (by decide) (fun a17 a18 hv hs => H2 rfl (by omega) _ _ _ _ ⟨⟨?_, hv.2.2.1⟩, hs⟩)
      rw [hv.1, show n - 50 = u by omega]
end
end
section
/-! the two runs of the law -/
theorem rl_run6 {fr fc fl fn fb fe fd fw : Int32} {a1 a2 a3 a4 a5 a6 a7 a8 a9 a10 a11 a12 a13 a14 a15 a16 a17 a18 a19 : Nat → Int32} {post : Int32 → St2 → Prop}
    (H : ∀ b18 : Nat → Int32, (∀ j, j < 10 → b18 j = nI 0) → ∃ n, wX_run_44 post n (nI 0) (nI 0) fr fc fl fn (nI 0) (nI 0) fd (nI 0) a1 a2 a3 a4 a5 a6 a7 a8 a9 a10 a11 a12 a13 a14 a15 a16 a17 b18 a19) : ∃ n, wX_run_6 post fr fc fl fn fb fe fd fw n 0 a1 a2 a3 a4 a5 a6 a7 a8 a9 a10 a11 a12 a13 a14 a15 a16 a17 a18 a19 :=
  pk_loop (σ := Nat → Int32) (fun n i s => wX_run_6 post fr fc fl fn fb fe fd fw n (nI i) a1 a2 a3 a4 a5 a6 a7 a8 a9 a10 a11 a12 a13 a14 a15 a16 a17 s a19) (fun i s => ∀ j, j < i → s j = nI 0) 10 0 a18 (by omega) (fun j hj => absurd hj (by omega))
    (fun n s h => pk_le 10 10 (fun _ => H s h) (fun z => absurd z (by omega)))
    (fun n i s hi h hw => pk_le 10 i (fun z => absurd z (by omega)) (fun _ => ⟨pk_in i 10 hi, fun b18 e18 => nm_r (nI_1 i) (hw b18 (fun j hj => by
      rw [e18, nI_clamp (by omega)]
      by_cases ej : j = i
      · rw [ej, pk_us]
        rfl
      · rw [pk_un ej]
        exact h j (by omega)))⟩))
theorem rl_run1 {fc fl fn fb fe fd fw : Int32} {a1 a2 a3 a4 a5 a6 a7 a8 a9 a10 a11 a12 a13 a14 a15 a16 a17 a18 a19 : Nat → Int32} {post : Int32 → St2 → Prop} {p q r n m : Nat} {z : Int32} (hB : (1 ≤ p ∧ p < 4) ∧ (4 ≤ q ∧ q < 7) ∧ (7 ≤ r ∧ r < 10)) (hm : 1 ≤ m) (hm' : m ≤ 4) (hn : n < 60)
    (hG : rl_G p q r m a1 a2 a3 a4 a5) (hE : rl_E p q r a6 a7) (hV : rl_V a17 (nI n) (nI 0) (nI 0) z)
    (H1 : n * (2 + m) + 2 ≤ 300 → ∀ ent b8 b9 b10 b11 b12 b13 b14 b15 b16 b17 b18 b19, rl_Z1 p q r n m z b17 b18 b19 → post 1 (1, (nI 4), (nI 2), (nI 8), (-1), (nI ent), (nI r), (nI (n + 2)), a1, a2, a3, a4, a5, a6, a7, b8, b9, b10, b11, b12, b13, b14, b15, b16, b17, b18, b19))
    (H2 : m = 4 → 50 ≤ n → ∀ w b8 b9 b10 b11 b12 b13 b14 b15 b16 b17 b18 b19, rl_Z2 p q r n z b17 b18 → post 2 (1, (nI 4), (nI 2), (nI 8), (nI 0), (nI 300), (nI q), (nI w), a1, a2, a3, a4, a5, a6, a7, b8, b9, b10, b11, b12, b13, b14, b15, b16, b17, b18, b19)) :
    wpX_run post (0, fc, fl, fn, fb, fe, fd, fw, a1, a2, a3, a4, a5, a6, a7, a8, a9, a10, a11, a12, a13, a14, a15, a16, a17, a18, a19) := by
  unfold wpX_run
  dsimp only
  refine rl_prepare hB.1.1 hB.1.2 hB.2.1.1 hB.2.1.2 hB.2.2.1 hB.2.2.2 hE (fun b8 b9 b10 b11 b12 b13 b14 b15 b16 hP hL hW => ?_)
  dsimp only
  refine rl_run6 (fun b18 h18 => ?_)
  have hH : rl_H p q r m a1 a2 a3 a4 a5 a6 a7 b8 b9 b12 b13 b14 b15 b16 := ⟨hB, hG, hE, hP, hL, hW⟩
  have K1 := rl_outer (post := post) (fr := 1) (fc := nI 4) (fl := nI 2) (a10 := b10) (a11 := b11) hH hm hm' hn (z := z) (fun h ent c17 c18 c19 hZ => H1 h ent _ _ _ _ _ _ _ _ _ _ _ _ hZ) (fun h h' w c17 c18 c19 hZ => H2 h h' w _ _ _ _ _ _ _ _ _ _ _ _ hZ)
    n 0 (0 + 1) fd (nI 0) a19 (by omega) (by omega) (by rw [Nat.zero_mul]; decide) (fun h => absurd h (by omega))
  rw [Nat.zero_mul, Nat.zero_mul, show nI 0 * z = nI 0 from Int32.zero_mul] at K1
  have K0 := rl_st0 (pc := 0) (st := 0) (by decide) (by decide) (by decide) (by decide) hW.1.1 K1
  exact K0 a17 b18 hV ⟨h18 0 (by decide), h18 p (by omega), h18 q (by omega), h18 r (by omega)⟩
theorem rl_run2 {fc fl fn fb fe fd fw : Int32} {a1 a2 a3 a4 a5 a6 a7 a8 a9 a10 a11 a12 a13 a14 a15 a16 a17 a18 a19 : Nat → Int32} {post : Int32 → St2 → Prop} (h1 : a1 0 = nI 1) (h2 : a2 (0 * 3) = nI 5) (h3 : a3 (0 * 3) = nI 0) (h5 : a5 0 = -1) (h6 : a6 0 = -1) (h7 : a7 0 = -1) (h17 : a17 0 = nI 5)
    (H : ∀ b8 b9 b10 b11 b14 b15 b18 b19, (∀ j, 0 < j → j < 10 → b18 j = nI 0) → b19 0 = nI 5 → post 1 (1, (nI 1), (nI 0), (nI 1), (-1), (nI 1), (nI 0), (nI 1), a1, a2, a3, a4, a5, a6, a7, b8, b9, b10, b11, a12, a13, b14, b15, a16, a17, b18, b19)) :
    wpX_run post (0, fc, fl, fn, fb, fe, fd, fw, a1, a2, a3, a4, a5, a6, a7, a8, a9, a10, a11, a12, a13, a14, a15, a16, a17, a18, a19) := by
  unfold wpX_run
  dsimp only
  refine rl_prepareB h6 h7 (fun b8 b9 b10 b11 b14 b15 e8 e9 e14 e15 => ?_)
  dsimp only
  refine rl_run6 (fun b18 h18 => ⟨2, ?_⟩)
  have hc0 : (nI 0).toNatClampNeg = 0 := nI_clamp (by decide)
  have hi : vp_in (nI 0) 64 := vp_in_nI (by decide) (by decide)
  have hg : rl_goes a5 a6 a7 b9 a17 0 (-1) := ⟨-1, Or.inl ⟨h5, h6⟩, Or.inl ⟨rfl, rfl⟩⟩
  refine br_f (by decide) (br_f (by decide) (br_f (by decide) (br_f (by decide) ⟨hi, ?_⟩)))
  unfold wpX_perform
  dsimp only
  rw [hc0, e14, e15, hc0, e8]
  refine ⟨hi, br_t rfl (br_t rfl ⟨vp_in_nI (by decide) (by decide), rl_en1 (b := 0) (v := 0) (w := 0) (e := 0) (by decide) (by decide) (by decide) h1 h2 h3 hg (fun c18 c19 e18 e19 => ?_)⟩)⟩
  dsimp only
  refine nm_r (e' := nI 1) (nI_1 0) (br_f (by decide) (br_t (by decide) ?_))
  unfold wX_run_94
  refine br_f (by decide) (H _ _ _ _ _ _ _ _ (fun j hj hj' => ?_) ?_)
  · rw [e18, pk_un (by omega)]
    exact h18 j hj'
  · rw [e19, h17]
    rfl
theorem rl_reach {fr fc fl fn fb fe fd fw : Int32} {a1 a2 a3 a4 a5 a6 a7 a8 a9 a10 a11 a12 a13 a14 a15 a16 a17 a18 a19 : Nat → Int32} {post : Int32 → St2 → Prop} (h : ¬ fr = 0) (H : post fc (fr, fc, fl, fn, fb, fe, fd, fw, a1, a2, a3, a4, a5, a6, a7, a8, a9, a10, a11, a12, a13, a14, a15, a16, a17, a18, a19)) : wpX_reachable post (fr, fc, fl, fn, fb, fe, fd, fw, a1, a2, a3, a4, a5, a6, a7, a8, a9, a10, a11, a12, a13, a14, a15, a16, a17, a18, a19) := by
  unfold wpX_reachable
  dsimp only
  exact rl_prepareN h H
/-! the graph's arrays, read back -/
theorem rl_chain1 {p q r : Nat} (hB : (1 ≤ p ∧ p < 4) ∧ (4 ≤ q ∧ q < 7) ∧ (7 ≤ r ∧ r < 10)) {c0 c1 c2 c3 c4 c5 c6 : Nat → Int32} {x1 x2 x3 x4 x5 x6 : Int32}
    (e1 : c1 = upd c0 0 x1) (e2 : c2 = upd c1 p x2) (e3 : c3 = upd c2 p x3) (e4 : c4 = upd c3 q x4) (e5 : c5 = upd c4 q x5) (e6 : c6 = upd c5 r x6) :
    c6 0 = x1 ∧ c6 p = x3 ∧ c6 q = x5 ∧ c6 r = x6 := by
  refine ⟨?_, ?_, ?_, ?_⟩
  · rw [e6, pk_un (by omega), e5, pk_un (by omega), e4, pk_un (by omega), e3, pk_un (by omega), e2, pk_un (by omega), e1, pk_us]
  · rw [e6, pk_un (by omega), e5, pk_un (by omega), e4, pk_un (by omega), e3, pk_us]
  · rw [e6, pk_un (by omega), e5, pk_us]
  · rw [e6, pk_us]
theorem rl_chain6 {p q r : Nat} (hB : (1 ≤ p ∧ p < 4) ∧ (4 ≤ q ∧ q < 7) ∧ (7 ≤ r ∧ r < 10)) {c0 c1 c2 c3 c4 c5 c6 : Nat → Int32} {x1 x2 x3 x4 x5 x6 : Int32}
    (e1 : c1 = upd c0 (0 * 3 + 0) x1) (e2 : c2 = upd c1 (p * 3 + 0) x2) (e3 : c3 = upd c2 (p * 3 + 1) x3) (e4 : c4 = upd c3 (q * 3 + 0) x4) (e5 : c5 = upd c4 (q * 3 + 1) x5) (e6 : c6 = upd c5 (r * 3 + 0) x6) :
    c6 (0 * 3) = x1 ∧ c6 (p * 3) = x2 ∧ c6 (p * 3 + 1) = x3 ∧ c6 (q * 3) = x4 ∧ c6 (q * 3 + 1) = x5 ∧ c6 (r * 3) = x6 := by
  rw [Nat.add_zero] at e1 e2 e4 e6
  refine ⟨?_, ?_, ?_, ?_, ?_, ?_⟩
  · rw [e6, pk_un (by omega), e5, pk_un (by omega), e4, pk_un (by omega), e3, pk_un (by omega), e2, pk_un (by omega), e1, pk_us]
  · rw [e6, pk_un (by omega), e5, pk_un (by omega), e4, pk_un (by omega), e3, pk_un (by omega), e2, pk_us]
  · rw [e6, pk_un (by omega), e5, pk_un (by omega), e4, pk_un (by omega), e3, pk_us]
  · rw [e6, pk_un (by omega), e5, pk_un (by omega), e4, pk_us]
  · rw [e6, pk_un (by omega), e5, pk_us]
  · rw [e6, pk_us]
theorem rl_chain3 {p q r : Nat} (hB : (1 ≤ p ∧ p < 4) ∧ (4 ≤ q ∧ q < 7) ∧ (7 ≤ r ∧ r < 10)) {c0 c1 c2 c3 : Nat → Int32} {x1 x2 x3 : Int32} (h0 : c0 r = -1)
    (e1 : c1 = upd c0 0 x1) (e2 : c2 = upd c1 p x2) (e3 : c3 = upd c2 q x3) : c3 0 = x1 ∧ c3 p = x2 ∧ c3 q = x3 ∧ c3 r = -1 := by
  refine ⟨?_, ?_, ?_, ?_⟩
  · rw [e3, pk_un (by omega), e2, pk_un (by omega), e1, pk_us]
  · rw [e3, pk_un (by omega), e2, pk_us]
  · rw [e3, pk_us]
  · rw [e3, pk_un (by omega), e2, pk_un (by omega), e1, pk_un (by omega), h0]
end
section
/-! the law -/
theorem rl_223a {fr fc fl fn fb fe : Int32} {a1 a2 a3 a4 a5 a6 a7 a8 a9 a10 a11 a12 a13 a14 a15 a16 a17 a18 a19 : Nat → Int32} {post : Int32 → St0 → Prop} {mc ms kc ks p q r n m : Nat} {z : Int32} (hB : (1 ≤ p ∧ p < 4) ∧ (4 ≤ q ∧ q < 7) ∧ (7 ≤ r ∧ r < 10)) (hn : n < 60) (hZ : rl_Z1 p q r n m z a17 a18 a19) (hp : post 1 ()) :
    wL_lawOf_223 post mc ms z (nI n) (nI m) (nI p) (nI q) (nI r) 1 1 1 kc ks fr fc fl fn fb fe (nI r) (nI (n + 2)) a1 a2 a3 a4 a5 a6 a7 a8 a9 a10 a11 a12 a13 a14 a15 a16 a17 a18 a19 := by
  obtain ⟨⟨v0, v2⟩, ⟨s0, s1, s2, s3⟩, g0, g1, g2⟩ := hZ
  have em : nI n * nI m = nI (n * m) := pk_mul n m
  have K : wL_lawOf_363 post mc ms kc ks fr fc fl fn fb fe (nI r) (nI (n + 2)) a1 a2 a3 a4 a5 a6 a7 a8 a9 a10 a11 a12 a13 a14 a15 a16 a17 a18 a19 := by
    unfold wL_lawOf_363
    exact rl_output16 (br_t rfl hp)
  unfold wL_lawOf_223
  refine br_t rfl (br_t rfl (rl_get 2 (by decide) (br_t (by rw [v2, em]) (rl_get 0 (by decide) (br_t v0 (rl_last (br_t rfl ?_)))))))
  refine rl_visits q (by omega) (br_t (by rw [s2, em]) (rl_visits 0 (by decide) (br_t (by rw [s0, nI_1]) (rl_visits r (by omega) (br_t s3 (rl_outputs (br_t (nI_add n 2).symm ?_)))))))
  refine rl_output 0 (n + 2) (n + 1) (by decide) (by omega) (by omega) (br_t (by rw [g0, em]) (rl_output 1 (n + 2) n (by decide) (by omega) (by omega) (br_t g1 ?_)))
  exact pk_lt n 1 (fun _ => K) (fun h => rl_output 2 (n + 2) (n - 1) (by decide) (by omega) (by omega) (br_t (g2 h) K))
theorem rl_568 {fc fl fn fb fe fd fw : Int32} {a1 a2 a3 a4 a5 a6 a7 a8 a9 a10 a11 a12 a13 a14 a15 a16 a17 a18 a19 : Nat → Int32} {post : Int32 → St0 → Prop} {mc ms kc ks q r n : Nat} (hq : 4 ≤ q) (hq' : q < 7) (hr : r < 10) (hn : 50 ≤ n) (h1 : a1 0 = nI 1) (h2 : a2 (0 * 3) = nI 5) (h3 : a3 (0 * 3) = nI 0) (hs : a18 r = nI 0) (hp : post 1 ()) :
    wL_lawOf_568 post mc ms (nI q) (nI r) (nI 50) (nI n) (nI (n - 50)) kc ks 1 fc fl fn fb fe fd fw a1 a2 a3 a4 a5 a6 a7 a8 a9 a10 a11 a12 a13 a14 a15 a16 a17 a18 a19 := by
  unfold wL_lawOf_568
  refine br_t (pk_sub hn).symm (rl_visits r (by omega) (br_t hs (rl_stop 0 (by decide) (fun b5 b6 b7 e5 e6 e7 => ?_))))
  dsimp only
  refine rl_set 0 (by decide) (fun b17 e17 => ?_)
  dsimp only
  refine rl_run2 h1 h2 h3 (by rw [e5, pk_us]) (by rw [e6, pk_us]) (by rw [e7, pk_us]) (by rw [e17, pk_us]; rfl) (fun b8 b9 b10 b11 b14 b15 b18 b19 h18 h19 => ?_)
  dsimp only
  refine br_t rfl (rl_outputs (br_t rfl (rl_output 0 1 0 (by decide) (by decide) (by decide) (br_t h19 (rl_last (br_t rfl (rl_visits q (by omega) (br_t (h18 q (by omega) (by omega)) ?_))))))))
  exact rl_reach (by decide) (br_t rfl hp)
theorem rl_223b {fc fl fn fb fe fw : Int32} {a1 a2 a3 a4 a5 a6 a7 a8 a9 a10 a11 a12 a13 a14 a15 a16 a17 a18 a19 : Nat → Int32} {post : Int32 → St0 → Prop} {mc ms kc ks p q r n : Nat} {z : Int32} (hB : (1 ≤ p ∧ p < 4) ∧ (4 ≤ q ∧ q < 7) ∧ (7 ≤ r ∧ r < 10)) (hn : 50 ≤ n) (h1 : a1 0 = nI 1) (h2 : a2 (0 * 3) = nI 5) (h3 : a3 (0 * 3) = nI 0) (hZ : rl_Z2 p q r n z a17 a18) (hp : post 1 ()) :
    wL_lawOf_223 post mc ms z (nI n) (nI 4) (nI p) (nI q) (nI r) 2 2 2 kc ks 1 fc fl fn fb fe (nI q) fw a1 a2 a3 a4 a5 a6 a7 a8 a9 a10 a11 a12 a13 a14 a15 a16 a17 a18 a19 := by
  obtain ⟨⟨v0, v2⟩, s0, s1, s2, s3⟩ := hZ
  have e200 : nI 50 * nI 4 = nI 200 := pk_mul 50 4
  unfold wL_lawOf_223
  refine br_t rfl (br_f (by decide) ⟨by decide, nm_r (e' := nI 50) (by decide) ⟨by decide, nm_r (e' := nI 0) (by decide) (br_t (by decide) ?_)⟩⟩)
  rw [e200]
  unfold wL_lawOf_423
  refine rl_get 2 (by decide) (br_t v2 (rl_visits 0 (by decide) (br_t (by decide) ?_)))
  unfold wL_lawOf_458
  refine br_t s0 (rl_visits p (by omega) (br_t (by decide) ?_))
  unfold wL_lawOf_483
  refine br_t s1 (rl_visits q (by omega) (br_t s2 (br_t rfl ?_)))
  unfold wL_lawOf_533
  refine rl_last (br_t rfl (rl_get 0 (by decide) (br_t (by decide) ?_)))
  rw [v0]
  exact rl_568 hB.2.1.1 hB.2.1.2 hB.2.2.2 hn h1 h2 h3 s3 hp
theorem rl_lawOf {post : Int32 → St0 → Prop} {x y z w : Int32} (hp : post 1 ()) : wpL_lawOf post 250 3984 () x y z w := by
  obtain ⟨n, hn, en⟩ := rl_num60 x
  obtain ⟨m, hm, hm', em⟩ := rl_num4 y
  obtain ⟨p, p1, p2, ep⟩ := rl_num3 w
  obtain ⟨q, q1, q2, eq⟩ := rl_num255 (w >>> ((4 : Int32) &&& 31)) 4
  obtain ⟨r, r1, r2, er⟩ := rl_num255 (w >>> ((12 : Int32) &&& 31)) 7
  have hB : (1 ≤ p ∧ p < 4) ∧ (4 ≤ q ∧ q < 7) ∧ (7 ≤ r ∧ r < 10) := ⟨⟨p1, p2⟩, ⟨q1, q2⟩, ⟨r1, r2⟩⟩
  unfold wpL_lawOf
  refine ⟨by decide, by decide, 19, 390, by decide, by decide, rl_init (fun u5 u6 u7 h0 => ?_)⟩
  dsimp only
  refine ⟨by decide, nm_r en (nm_r em ⟨by decide, nm_r ep ⟨by decide, nm_r eq ⟨by decide, nm_r er ?_⟩⟩⟩)⟩
  refine rl_assign 0 5 0 0 (by decide) (by decide) (by decide) (by decide) rfl (fun _ h => absurd h (by decide)) (fun _ c1 d1 f1 g1 ec1 ed1 ef1 eg1 => ?_)
  dsimp only
  refine rl_branch 0 0 p r (by decide) (by decide) (by omega) (by omega) (fun i1 j1 k1 ei1 ej1 ek1 => ?_)
  dsimp only
  refine rl_assign p 0 1 0 (by omega) (by decide) (by decide) (by decide) (by rw [ec1, pk_un (by omega)]; rfl) (fun h _ => absurd h (by decide)) (fun _ c2 d2 f2 g2 ec2 ed2 ef2 eg2 => ?_)
  dsimp only
  refine rl_assign p 4 0 1 (by omega) (by decide) (by decide) (by decide) (by rw [ec2, pk_us]) (fun _ h => absurd h (by decide)) (fun _ c3 d3 f3 g3 ec3 ed3 ef3 eg3 => ?_)
  dsimp only
  refine rl_go p q (by omega) (by omega) (fun i2 j2 k2 ei2 ej2 ek2 => ?_)
  dsimp only
  refine rl_assign q 1 2 0 (by omega) (by decide) (by decide) (by decide) (by rw [ec3, pk_un (by omega), ec2, pk_un (by omega), ec1, pk_un (by omega)]; rfl) (fun _ _ => ⟨3, by decide, rfl⟩) (fun _ c4 d4 f4 g4 ec4 ed4 ef4 eg4 => ?_)
  dsimp only
  refine rl_assign q 4 1 1 (by omega) (by decide) (by decide) (by decide) (by rw [ec4, pk_us]) (fun _ h => absurd h (by decide)) (fun _ c5 d5 f5 g5 ec5 ed5 ef5 eg5 => ?_)
  dsimp only
  refine rl_branch q 1 q 0 (by omega) (by decide) (by omega) (by decide) (fun i3 j3 k3 ei3 ej3 ek3 => ?_)
  dsimp only
  refine rl_assign r 5 2 0 (by omega) (by decide) (by decide) (by decide) (by rw [ec5, pk_un (by omega), ec4, pk_un (by omega), ec3, pk_un (by omega), ec2, pk_un (by omega), ec1, pk_un (by omega)]; rfl) (fun _ h => absurd h (by decide)) (fun _ c6 d6 f6 g6 ec6 ed6 ef6 eg6 => ?_)
  dsimp only
  refine rl_set 0 (by decide) (fun v1 ev1 => ?_)
  dsimp only
  refine rl_set 3 (by decide) (fun v2 ev2 => ?_)
  dsimp only
  have hC := rl_chain1 hB ec1 ec2 ec3 ec4 ec5 ec6
  have hD := rl_chain6 hB ed1 ed2 ed3 ed4 ed5 ed6
  have hF := rl_chain6 hB ef1 ef2 ef3 ef4 ef5 ef6
  have hG' := rl_chain6 hB eg1 eg2 eg3 eg4 eg5 eg6
  have hI := rl_chain3 hB (h0 r (by omega)).1 ei1 ei2 ei3
  have hJ := rl_chain3 hB (h0 r (by omega)).2.1 ej1 ej2 ej3
  have hK := rl_chain3 hB (h0 r (by omega)).2.2 ek1 ek2 ek3
  have hG : rl_G p q r m c6 d6 f6 g6 i3 :=
    ⟨hC, ⟨hD.1, hF.1⟩, ⟨hD.2.1, hF.2.1, hG'.2.1⟩, ⟨hD.2.2.1, hF.2.2.1, hG'.2.2.1⟩, ⟨hD.2.2.2.1, hF.2.2.2.1, hG'.2.2.2.1⟩, ⟨hD.2.2.2.2.1, hF.2.2.2.2.1, hG'.2.2.2.2.1⟩, ⟨hD.2.2.2.2.2, hF.2.2.2.2.2⟩, hI⟩
  have hE : rl_E p q r j3 k3 := ⟨hJ.1, hJ.2.1, hJ.2.2.1, hJ.2.2.2, hK.1, hK.2.1, hK.2.2.1, hK.2.2.2⟩
  have hV : rl_V v2 (nI n) (nI 0) (nI 0) z :=
    ⟨by rw [ev2, pk_un (by decide), ev1, pk_us], by rw [ev2, pk_un (by decide), ev1, pk_un (by decide)]; rfl, by rw [ev2, pk_un (by decide), ev1, pk_un (by decide)]; rfl, by rw [ev2, pk_us]⟩
  have e10 : nI n * (2 + nI m) + 2 = nI (n * (2 + m) + 2) := by
    rw [show (2 : Int32) = nI 2 from rfl, nI_add, pk_mul, nI_add]
  have hb : n * (2 + m) + 2 < 2 ^ 31 := by
    have : n * (2 + m) ≤ 60 * 6 := Nat.mul_le_mul (by omega) (by omega)
    omega
  refine nm_r e10 (rl_run1 hB hm hm' hn hG hE hV (fun hl ent b8 b9 b10 b11 b12 b13 b14 b15 b16 b17 b18 b19 hZ => ?_) (fun h4 h50 wr b8 b9 b10 b11 b12 b13 b14 b15 b16 b17 b18 b19 hZ => ?_))
  · dsimp only
    refine rl_reach (by decide) (br_t rfl (br_f (nI_nlt (a := 300) hl (by decide)) ?_))
    exact rl_223a hB hn hZ hp
  · subst h4
    dsimp only
    refine rl_reach (by decide) (br_t rfl (br_t (nI_lt (a := 300) (by omega) hb) ?_))
    exact rl_223b hB h50 hC.1 hD.1 hF.1 hZ hp
theorem rl_cell {post : Int32 → Prop} {L : Nat} {xs : Nat → Int32} (hL : L ≤ 4) (i : Nat) (hi : i < 4) (h : ∀ v, post v) : wpL_cellAt post L xs () (nI i) := by
  unfold wpL_cellAt
  exact pk_le L i (fun _ => h _) (fun z => ⟨vp_in_nI z (by omega), h _⟩)
theorem i_vc (xs : Nat → Int32) (L : Nat) (hL : L ≤ 4) : wpL_law (fun r => r = 1) L xs := by
  unfold wpL_law
  exact rl_cell hL 0 (by decide) (fun a => rl_cell hL 1 (by decide) (fun b => rl_cell hL 2 (by decide) (fun c => rl_cell hL 3 (by decide) (fun d => ⟨250, 3984, by decide, by decide, rl_lawOf rfl⟩))))
end
