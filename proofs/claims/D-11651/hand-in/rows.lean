section
/-! ===== numbers and places ===== -/
theorem fg_m4 : ∀ c, c < 4 → nI c &&& 3 = nI c := by decide +kernel
theorem fg_cl {p : Nat} (h : p < 2000) : (nI p).toNatClampNeg = p := nI_clamp (by omega)
theorem fg_s2 (d : Nat) : nI (d + 2) - 2 = nI d := by
  have h := pk_sub (a := d + 2) (b := 2) (by omega)
  rw [Nat.add_sub_cancel] at h
  exact h
theorem fg_s1 (d : Nat) : nI (d + 2) - 1 = nI (d + 1) := nI_pred (d + 1)
section
variable {post : St2 → Prop} {sz ck gd ls st fu ap dp : Int32} {a1 a2 a3 a4 a5 a6 a7 a8 a9 : Nat → Int32}
/-! ===== the machine's instructions ===== -/
theorem fg_push {d : Nat} {v : Int32} (hd : d < 9) (H : post (sz, ck, gd, ls, st, fu, ap, nI (d + 1), a1, a2, a3, a4, a5, a6, a7, upd a8 d v, a9)) : wpX_push post (sz, ck, gd, ls, st, fu, ap, nI d, a1, a2, a3, a4, a5, a6, a7, a8, a9) v := by
  unfold wpX_push
  dsimp only
  rw [fg_cl (show d < 2000 by omega)]
  exact ⟨pk_in d 9 hd, nm_e (nm_r (nI_1 d) H)⟩
theorem fg_add {d : Nat} (hd : d + 1 < 9) (H : post (sz, ck, gd, ls, st, fu, ap, nI (d + 1), a1, a2, a3, a4, a5, a6, a7, upd a8 d (a8 d + a8 (d + 1)), a9)) : wpX_arithmetic post (sz, ck, gd, ls, st, fu, ap, nI (d + 2), a1, a2, a3, a4, a5, a6, a7, a8, a9) 3 := by
  unfold wpX_arithmetic
  dsimp only
  rw [fg_s2, fg_s1, fg_cl (show d < 2000 by omega), fg_cl (show d + 1 < 2000 by omega)]
  exact ⟨pk_in d 9 (by omega), nm_e ⟨pk_in (d + 1) 9 hd, nm_e (nm_e (br_t rfl ⟨pk_in d 9 (by omega) (nI_pred d), nm_r (by rw [nI_pred, fg_cl (show d < 2000 by omega)]) H⟩))⟩⟩
theorem fg_sub {d : Nat} (hd : d + 1 < 9) (H : post (sz, ck, gd, ls, st, fu, ap, nI (d + 1), a1, a2, a3, a4, a5, a6, a7, upd a8 d (a8 d - a8 (d + 1)), a9)) : wpX_arithmetic post (sz, ck, gd, ls, st, fu, ap, nI (d + 2), a1, a2, a3, a4, a5, a6, a7, a8, a9) 4 := by
  unfold wpX_arithmetic
  dsimp only
  rw [fg_s2, fg_s1, fg_cl (show d < 2000 by omega), fg_cl (show d + 1 < 2000 by omega)]
  exact ⟨pk_in d 9 (by omega), nm_e ⟨pk_in (d + 1) 9 hd, nm_e (nm_e (br_f (by decide) (br_t rfl ⟨pk_in d 9 (by omega) (nI_pred d), nm_r (by rw [nI_pred, fg_cl (show d < 2000 by omega)]) H⟩)))⟩⟩
theorem fg_o0 {p d : Nat} (hp : p < 24) (hd : d < 9) (ho : a1 p = 0) (H : post (sz, ck, gd, ls, st, fu, nI (p + 1), nI (d + 1), a1, a2, a3, a4, a5, a6, a7, upd a8 d (a2 p), a9)) : wpX_perform post (sz, ck, gd, ls, st, fu, nI p, nI d, a1, a2, a3, a4, a5, a6, a7, a8, a9) := by
  unfold wpX_perform
  dsimp only
  rw [fg_cl (show p < 2000 by omega), ho]
  refine ⟨pk_in p 24 hp, nm_e (nm_r (nI_1 p) (br_f (by decide) (br_f (by decide) (br_t rfl ⟨pk_in p 24 hp, fg_push hd ?_⟩))))⟩
  exact br_f (by decide) H
theorem fg_o3 {p d : Nat} (hp : p < 24) (hd : d + 1 < 9) (ho : a1 p = 3) (H : post (sz, ck, gd, ls, st, fu, nI (p + 1), nI (d + 1), a1, a2, a3, a4, a5, a6, a7, upd a8 d (a8 d + a8 (d + 1)), a9)) : wpX_perform post (sz, ck, gd, ls, st, fu, nI p, nI (d + 2), a1, a2, a3, a4, a5, a6, a7, a8, a9) := by
  unfold wpX_perform
  dsimp only
  rw [fg_cl (show p < 2000 by omega), ho]
  refine ⟨pk_in p 24 hp, nm_e (nm_r (nI_1 p) (br_f (by decide) (br_f (by decide) (br_f (by decide) (br_f (by decide) (br_f (by decide) (br_t rfl ?_)))))))⟩
  unfold wX_perform_131
  refine fg_add hd ?_
  exact br_f (by decide) H
theorem fg_o4 {p d : Nat} (hp : p < 24) (hd : d + 1 < 9) (ho : a1 p = 4) (H : post (sz, ck, gd, ls, st, fu, nI (p + 1), nI (d + 1), a1, a2, a3, a4, a5, a6, a7, upd a8 d (a8 d - a8 (d + 1)), a9)) : wpX_perform post (sz, ck, gd, ls, st, fu, nI p, nI (d + 2), a1, a2, a3, a4, a5, a6, a7, a8, a9) := by
  unfold wpX_perform
  dsimp only
  rw [fg_cl (show p < 2000 by omega), ho]
  refine ⟨pk_in p 24 hp, nm_e (nm_r (nI_1 p) (br_f (by decide) (br_f (by decide) (br_f (by decide) (br_f (by decide) (br_f (by decide) (br_f (by decide) (br_t rfl ?_))))))))⟩
  unfold wX_perform_131
  refine fg_sub hd ?_
  exact br_f (by decide) H
theorem fg_o10 {p d : Nat} (hp : p < 24) (hd : d < 9) (ho : a1 p = 10) (H0 : a8 d ≤ 0 → post (sz, ck, gd, ls, st, fu, nI (p + 1), nI d, a1, a2, a3, a4, a5, a6, a7, a8, a9)) (H1 : ¬ a8 d ≤ 0 → post (sz, ck, gd, ls, st, fu, a2 p, nI d, a1, a2, a3, a4, a5, a6, a7, a8, a9)) : wpX_perform post (sz, ck, gd, ls, st, fu, nI p, nI (d + 1), a1, a2, a3, a4, a5, a6, a7, a8, a9) := by
  unfold wpX_perform
  dsimp only
  rw [fg_cl (show p < 2000 by omega), ho]
  refine ⟨pk_in p 24 hp, nm_e (nm_r (nI_1 p) (br_f (by decide) (br_f (by decide) (br_f (by decide) (br_f (by decide) (br_f (by decide) (br_f (by decide) (br_f (by decide) (br_f (by decide) (br_f (by decide) (br_f (by decide) (br_f (by decide) (br_f (by decide) (br_t rfl (nm_r (nI_pred d) ⟨pk_in d 9 hd, ?_⟩)))))))))))))))⟩
  rw [fg_cl (show d < 2000 by omega)]
  exact ⟨fun z => br_f (by decide) (H0 z), fun z => ⟨pk_in p 24 hp, nm_e (br_f (by decide) (H1 z))⟩⟩
theorem fg_o11 {p d c : Nat} (hp : p < 24) (hd : d < 9) (hc : c < 4) (ho : a1 p = 11) (hk : a2 p = nI c) (H : post (sz, ck, gd, ls, st, fu, nI (p + 1), nI (d + 1), a1, a2, a3, a4, a5, a6, a7, upd a8 d (a9 c), a9)) : wpX_perform post (sz, ck, gd, ls, st, fu, nI p, nI d, a1, a2, a3, a4, a5, a6, a7, a8, a9) := by
  unfold wpX_perform
  dsimp only
  rw [fg_cl (show p < 2000 by omega), ho, hk, fg_m4 c hc, fg_cl (show c < 2000 by omega)]
  refine ⟨pk_in p 24 hp, nm_e (nm_r (nI_1 p) (br_f (by decide) (br_f (by decide) (br_f (by decide) (br_f (by decide) (br_f (by decide) (br_f (by decide) (br_f (by decide) (br_f (by decide) (br_f (by decide) (br_f (by decide) (br_f (by decide) (br_f (by decide) (br_f (by decide) (br_t rfl ⟨pk_in p 24 hp, pk_in c 4 hc, fg_push hd ?_⟩)))))))))))))))⟩
  exact br_f (by decide) H
theorem fg_o12 {p d c : Nat} (hp : p < 24) (hd : d < 9) (hc : c < 4) (ho : a1 p = 12) (hk : a2 p = nI c) (H : post (sz, ck, gd, ls, st, fu, nI (p + 1), nI d, a1, a2, a3, a4, a5, a6, a7, a8, upd a9 c (a8 d))) : wpX_perform post (sz, ck, gd, ls, st, fu, nI p, nI (d + 1), a1, a2, a3, a4, a5, a6, a7, a8, a9) := by
  unfold wpX_perform
  dsimp only
  rw [fg_cl (show p < 2000 by omega), ho, hk, fg_m4 c hc, fg_cl (show c < 2000 by omega)]
  refine ⟨pk_in p 24 hp, nm_e (nm_r (nI_1 p) (br_f (by decide) (br_f (by decide) (br_f (by decide) (br_f (by decide) (br_f (by decide) (br_f (by decide) (br_f (by decide) (br_f (by decide) (br_f (by decide) (br_f (by decide) (br_f (by decide) (br_f (by decide) (br_f (by decide) (br_f (by decide) (br_t rfl (nm_r (nI_pred d) ⟨pk_in p 24 hp, pk_in d 9 hd, pk_in c 4 hc, ?_⟩)))))))))))))))))⟩
  rw [fg_cl (show d < 2000 by omega)]
  exact nm_e (br_f (by decide) H)
theorem fg_o13 {p : Nat} (hp : p < 24) (ho : a1 p = 13) (H : post (sz, ck, gd, ls, 1, fu, nI p, dp, a1, a2, a3, a4, a5, a6, a7, a8, a9)) : wpX_perform post (sz, ck, gd, ls, st, fu, nI p, dp, a1, a2, a3, a4, a5, a6, a7, a8, a9) := by
  unfold wpX_perform
  dsimp only
  rw [fg_cl (show p < 2000 by omega), ho]
  refine ⟨pk_in p 24 hp, nm_e (nm_r (nI_1 p) (br_f (by decide) (br_t (by decide) ?_)))⟩
  exact br_t rfl H
theorem fg_o14 {p : Nat} (hp : p < 24) (ho : a1 p = 14) (H : post (sz, ck, gd, ls, st, fu, nI (p + 1), dp, a1, a2, a3, a4, a5, a6, a7, a8, a9)) : wpX_perform post (sz, ck, gd, ls, st, fu, nI p, dp, a1, a2, a3, a4, a5, a6, a7, a8, a9) := by
  unfold wpX_perform
  dsimp only
  rw [fg_cl (show p < 2000 by omega), ho]
  refine ⟨pk_in p 24 hp, nm_e (nm_r (nI_1 p) (br_f (by decide) (br_t (by decide) ?_)))⟩
  exact br_f (by decide) H
end
end
section
/-! ===== the picture: turn it of n, at place p of it (place 11 of a turn that isn't the last is place 0 of the next) ===== -/
def fg_op : Nat → Nat
  | 0 => 11 | 1 => 0 | 2 => 4 | 3 => 12 | 4 => 11 | 5 => 11 | 6 => 3 | 7 => 12 | 8 => 14 | 9 => 11 | 10 => 10 | _ => 13
def fg_con : Nat → Nat
  | 1 => 1 | 4 => 1 | 5 => 2 | 7 => 1 | _ => 0
/-- the height at a place -/
def fg_h : Nat → Nat
  | 1 => 1 | 2 => 2 | 3 => 1 | 5 => 1 | 6 => 2 | 7 => 1 | 10 => 1 | _ => 0
/-- what one instruction costs, and what a turn has cost up to a place -/
def fg_k (w p : Nat) : Nat := if p = 8 then w else 1
def fg_U (w p : Nat) : Nat := if p ≤ 8 then p else p - 1 + w
def fg_S (n : Nat) (y : Int32) (it : Nat) (a8 : Nat → Int32) : Nat → Prop
  | 1 => a8 0 = nI (n - it)
  | 2 => a8 0 = nI (n - it) ∧ a8 1 = 1
  | 3 => a8 0 = nI (n - it - 1)
  | 5 => a8 0 = nI it * y
  | 6 => a8 0 = nI it * y ∧ a8 1 = y
  | 7 => a8 0 = nI (it + 1) * y
  | 10 => a8 0 = nI (n - it - 1)
  | _ => True
def fg_Q (n : Nat) (y : Int32) (it p : Nat) (ap dp : Int32) (a8 a9 : Nat → Int32) : Prop :=
  it < n ∧ n ≤ 32 ∧ p ≤ 11 ∧ ap = nI (if p = 11 ∧ it + 1 < n then 0 else p) ∧ dp = nI (fg_h p) ∧ a9 0 = nI (if p ≤ 3 then n - it else n - it - 1) ∧ a9 1 = nI (if p ≤ 7 then it else it + 1) * y ∧ a9 2 = y ∧ fg_S n y it a8 p
/-- the code -/
def fg_C (w : Nat) (a1 a2 : Nat → Int32) : Prop :=
  0 < w ∧ w ≤ 16 ∧ (∀ j, j ≤ 11 → a1 j = nI (fg_op j)) ∧ (∀ j, j ≤ 11 → j ≠ 8 → a2 j = nI (fg_con j)) ∧ (a2 8 &&& 15) + 1 = nI w
/-- the blocks -/
def fg_B (w : Nat) (a5 a6 : Nat → Int32) : Prop :=
  (∀ j, j ≤ 10 → a5 j = nI (10 + w - fg_U w j) ∧ a6 j = nI 10) ∧ a5 11 = nI 1 ∧ a6 11 = nI 11
theorem fg_y1 (it : Nat) (y : Int32) : nI it * y + y = nI (it + 1) * y := by
  rw [nI_succ]
  grind
theorem fg_Qn {n : Nat} {y : Int32} {it : Nat} {ap dp : Int32} {a8 a9 : Nat → Int32} (h : fg_Q n y it 11 ap dp a8 a9) (hn : it + 1 < n) : fg_Q n y (it + 1) 0 ap dp a8 a9 := by
  obtain ⟨h1, h2, h3, h4, h5, h6, h7, h8, h9⟩ := h
  refine ⟨hn, h2, by omega, ?_, h5, ?_, h7, h8, trivial⟩
  · rw [h4, if_pos (show 11 = 11 ∧ it + 1 < n from ⟨rfl, hn⟩)]
    rfl
  · rw [h6]
    show nI (n - it - 1) = nI (n - (it + 1))
    rw [Nat.sub_sub]
theorem fg_Qe {n : Nat} {y : Int32} {it p q : Nat} {ap dp : Int32} {a8 a9 : Nat → Int32} (e : p = q) (h : fg_Q n y it p ap dp a8 a9) : fg_Q n y it q ap dp a8 a9 := by
  rw [← e]
  exact h
section
variable {post : St2 → Prop} {sz ck gd ls st fu ap dp : Int32} {a1 a2 a3 a4 a5 a6 a7 a8 a9 : Nat → Int32} {n w it p : Nat} {y : Int32}
theorem fg_perf (hc : fg_C w a1 a2) (hq : fg_Q n y it p ap dp a8 a9) (hp : p ≤ 10)
    (H : ∀ ap' dp' a8' a9', fg_Q n y it (p + 1) ap' dp' a8' a9' → post (sz, ck, gd, ls, st, fu, ap', dp', a1, a2, a3, a4, a5, a6, a7, a8', a9')) : wpX_perform post (sz, ck, gd, ls, st, fu, ap, dp, a1, a2, a3, a4, a5, a6, a7, a8, a9) := by
  obtain ⟨c1, c2, c3, c4, c5⟩ := hc
  obtain ⟨h1, h2, h3, h4, h5, h6, h7, h8, h9⟩ := hq
  rw [if_neg (show ¬ (p = 11 ∧ it + 1 < n) by omega)] at h4
  subst h4 h5
  have hpc : p = 0 ∨ p = 1 ∨ p = 2 ∨ p = 3 ∨ p = 4 ∨ p = 5 ∨ p = 6 ∨ p = 7 ∨ p = 8 ∨ p = 9 ∨ p = 10 := by omega
  rcases hpc with rfl | rfl | rfl | rfl | rfl | rfl | rfl | rfl | rfl | rfl | rfl
  · refine fg_o11 (p := 0) (d := 0) (c := 0) (by decide) (by decide) (by decide) (c3 0 (by decide)) (c4 0 (by decide) (by decide)) (H _ _ _ _ ?_)
    exact ⟨h1, h2, by decide, rfl, rfl, h6, h7, h8, h6⟩
  · refine fg_o0 (p := 1) (d := 1) (by decide) (by decide) (c3 1 (by decide)) (H _ _ _ _ ?_)
    exact ⟨h1, h2, by decide, rfl, rfl, h6, h7, h8, h9, c4 1 (by decide) (by decide)⟩
  · refine fg_o4 (p := 2) (d := 0) (by decide) (by decide) (c3 2 (by decide)) (H _ _ _ _ ?_)
    refine ⟨h1, h2, by decide, rfl, rfl, h6, h7, h8, ?_⟩
    show upd a8 0 (a8 0 - a8 1) 0 = nI (n - it - 1)
    rw [pk_us, h9.1, h9.2]
    exact pk_sub (a := n - it) (b := 1) (by omega)
  · refine fg_o12 (p := 3) (d := 0) (c := 0) (by decide) (by decide) (by decide) (c3 3 (by decide)) (c4 3 (by decide) (by decide)) (H _ _ _ _ ?_)
    exact ⟨h1, h2, by decide, rfl, rfl, h9, h7, h8, trivial⟩
  · refine fg_o11 (p := 4) (d := 0) (c := 1) (by decide) (by decide) (by decide) (c3 4 (by decide)) (c4 4 (by decide) (by decide)) (H _ _ _ _ ?_)
    exact ⟨h1, h2, by decide, rfl, rfl, h6, h7, h8, h7⟩
  · refine fg_o11 (p := 5) (d := 1) (c := 2) (by decide) (by decide) (by decide) (c3 5 (by decide)) (c4 5 (by decide) (by decide)) (H _ _ _ _ ?_)
    exact ⟨h1, h2, by decide, rfl, rfl, h6, h7, h8, h9, h8⟩
  · refine fg_o3 (p := 6) (d := 0) (by decide) (by decide) (c3 6 (by decide)) (H _ _ _ _ ?_)
    refine ⟨h1, h2, by decide, rfl, rfl, h6, h7, h8, ?_⟩
    show upd a8 0 (a8 0 + a8 1) 0 = nI (it + 1) * y
    rw [pk_us, h9.1, h9.2]
    exact fg_y1 it y
  · refine fg_o12 (p := 7) (d := 0) (c := 1) (by decide) (by decide) (by decide) (c3 7 (by decide)) (c4 7 (by decide) (by decide)) (H _ _ _ _ ?_)
    exact ⟨h1, h2, by decide, rfl, rfl, h6, h9, h8, trivial⟩
  · refine fg_o14 (p := 8) (by decide) (c3 8 (by decide)) (H _ _ _ _ ?_)
    exact ⟨h1, h2, by decide, rfl, rfl, h6, h7, h8, trivial⟩
  · refine fg_o11 (p := 9) (d := 0) (c := 0) (by decide) (by decide) (by decide) (c3 9 (by decide)) (c4 9 (by decide) (by decide)) (H _ _ _ _ ?_)
    exact ⟨h1, h2, by decide, rfl, rfl, h6, h7, h8, h6⟩
  · have h9' : a8 0 = nI (n - it - 1) := h9
    refine fg_o10 (p := 10) (d := 0) (by decide) (by decide) (c3 10 (by decide)) (fun z => H _ _ _ _ ?_) (fun z => H _ _ _ _ ?_)
    · have hn : ¬ it + 1 < n := fun g => by
        rw [h9'] at z
        exact nI_nle (n := n - it - 1) (by omega) (by omega) z
      refine ⟨h1, h2, by decide, ?_, rfl, h6, h7, h8, trivial⟩
      rw [if_neg (show ¬ (10 + 1 = 11 ∧ it + 1 < n) from fun t => hn t.2)]
    · have hn : it + 1 < n := by
        by_cases g : it + 1 < n
        · exact g
        · refine absurd ?_ z
          rw [h9', show n - it - 1 = 0 by omega]
          decide
      refine ⟨h1, h2, by decide, ?_, rfl, h6, h7, h8, trivial⟩
      rw [if_pos (show 10 + 1 = 11 ∧ it + 1 < n from ⟨rfl, hn⟩)]
      exact c4 10 (by decide) (by decide)
theorem fg_cost {post : Int32 → Prop} (hc : fg_C w a1 a2) (hp : p ≤ 11) (H : post (nI (fg_k w p))) : wpX_costOf post (sz, ck, gd, ls, st, fu, ap, dp, a1, a2, a3, a4, a5, a6, a7, a8, a9) (nI p) := by
  obtain ⟨c1, c2, c3, c4, c5⟩ := hc
  unfold wpX_costOf
  dsimp only
  rw [fg_cl (show p < 2000 by omega)]
  by_cases e : p = 8
  · subst e
    refine ⟨pk_in 8 24 (by decide), br_f (by rw [c3 8 (by decide)]; decide) ⟨pk_in 8 24 (by decide), br_t (by rw [c3 8 (by decide)]; decide) ⟨pk_in 8 24 (by decide), ?_⟩⟩⟩
    rw [c5]
    exact H
  · have hk : fg_k w p = 1 := if_neg e
    have ho : ∀ j, j ≤ 11 → j ≠ 8 → ¬ nI (fg_op j) = 5 ∧ ¬ nI (fg_op j) = 14 := by
      intro j hj
      have hpc : j = 0 ∨ j = 1 ∨ j = 2 ∨ j = 3 ∨ j = 4 ∨ j = 5 ∨ j = 6 ∨ j = 7 ∨ j = 8 ∨ j = 9 ∨ j = 10 ∨ j = 11 := by omega
      rcases hpc with rfl | rfl | rfl | rfl | rfl | rfl | rfl | rfl | rfl | rfl | rfl | rfl <;> decide
    rw [c3 p hp]
    rw [hk] at H
    exact ⟨pk_in p 24 (by omega), br_f (ho p hp e).1 ⟨pk_in p 24 (by omega), br_f (ho p hp e).2 H⟩⟩
end
end
section
section
variable {post : St2 → Prop} {sz ck gd ls st fu ap dp : Int32} {a1 a2 a3 a4 a5 a6 a7 a8 a9 : Nat → Int32} {n w it p : Nat} {y : Int32}
/-! ===== a block at once ===== -/
theorem fg_rb39 (hc : fg_C w a1 a2) (hq : fg_Q n y it p ap dp a8 a9) (hp : p ≤ 10)
    (H : ∀ ap' dp' a8' a9', fg_Q n y it 11 ap' dp' a8' a9' → post (sz, ck, gd, ls, st, fu, ap', dp', a1, a2, a3, a4, a5, a6, a7, a8', a9')) : ∃ fl, wX_runBlock_39 post (nI (11 - p)) fl 0 sz ck gd ls st fu ap dp a1 a2 a3 a4 a5 a6 a7 a8 a9 :=
  pk_loop (σ := Int32 × Int32 × (Nat → Int32) × (Nat → Int32))
    (fun m i s => wX_runBlock_39 post (nI (11 - p)) m (nI i) sz ck gd ls st fu s.1 s.2.1 a1 a2 a3 a4 a5 a6 a7 s.2.2.1 s.2.2.2)
    (fun i s => fg_Q n y it (p + i) s.1 s.2.1 s.2.2.1 s.2.2.2) (11 - p) 0 (ap, dp, a8, a9) (by omega) hq
    (fun m s h => pk_le (11 - p) (11 - p) (fun _ => H _ _ _ _ (fg_Qe (show p + (11 - p) = 11 by omega) h)) (fun z => absurd z (by omega)))
    (fun m i s hi h hw => pk_le (11 - p) i (fun z => absurd z (by omega)) (fun _ => fg_perf hc h (by omega) (fun ap' dp' a8' a9' hq' => nm_r (nI_1 i) (hw (ap', dp', a8', a9') hq'))))
theorem fg_U0 (hp : p ≤ 10) : fg_U w p ≤ 9 + w := by
  unfold fg_U
  split <;> omega
theorem fg_ap (hq : fg_Q n y it p ap dp a8 a9) (hp : p ≤ 10 ∨ it + 1 = n) : ap = nI p := by
  obtain ⟨h1, h2, h3, h4, h5⟩ := hq
  rw [h4, if_neg (by omega)]
theorem fg_rb {F : Nat} (hc : fg_C w a1 a2) (hb : fg_B w a5 a6) (hq : fg_Q n y it p ap dp a8 a9) (hp : p ≤ 10) (hF : 10 + w - fg_U w p ≤ F)
    (H : ∀ ap' dp' a8' a9', fg_Q n y it 11 ap' dp' a8' a9' → post (sz, ck, gd, ls, st, nI (F - (10 + w - fg_U w p)), ap', dp', a1, a2, a3, a4, a5, a6, a7, a8', a9')) : wpX_runBlock post (sz, ck, gd, ls, st, nI F, ap, dp, a1, a2, a3, a4, a5, a6, a7, a8, a9) := by
  have ea := fg_ap hq (Or.inl hp)
  subst ea
  unfold wpX_runBlock
  dsimp only
  rw [fg_cl (show p < 2000 by omega), (hb.1 p hp).1, (hb.1 p hp).2]
  refine ⟨pk_in p 24 (by omega), nm_e (nm_r ?_ ⟨pk_in p 24 (by omega), nm_r (pk_sub hF) (fg_rb39 hc hq hp H)⟩)⟩
  rw [pk_sub (by omega), nI_1, show 10 - p + 1 = 11 - p by omega]
theorem fg_rbE {F : Nat} (hc : fg_C w a1 a2) (hb : fg_B w a5 a6) (hF : 1 ≤ F)
    (H : post (sz, ck, gd, ls, 1, nI (F - 1), nI 11, dp, a1, a2, a3, a4, a5, a6, a7, a8, a9)) : wpX_runBlock post (sz, ck, gd, ls, st, nI F, nI 11, dp, a1, a2, a3, a4, a5, a6, a7, a8, a9) := by
  unfold wpX_runBlock
  dsimp only
  rw [fg_cl (show 11 < 2000 by omega), hb.2.1, hb.2.2]
  refine ⟨pk_in 11 24 (by omega), nm_e (nm_r (e' := nI 1) (by decide) ⟨pk_in 11 24 (by omega), nm_r (pk_sub hF) ⟨2, ?_⟩⟩)⟩
  refine pk_le 1 0 (fun z => absurd z (by omega)) (fun _ => ?_)
  refine fg_o13 (p := 11) (by decide) (hc.2.2.1 11 (by decide)) ?_
  exact nm_r (e' := nI 1) (by decide) (pk_le 1 1 (fun _ => H) (fun z => absurd z (by omega)))
/-! ===== a block by its instructions, as far as the fuel reaches ===== -/
theorem fg_Us (hp : p ≤ 10) : fg_U w (p + 1) = fg_U w p + fg_k w p := by
  unfold fg_U fg_k
  split <;> split <;> split <;> omega
theorem fg_cr2 (hc : fg_C w a1 a2) (T : Nat)
    (H : ∀ p' F' ap' dp' a8' a9', p' ≤ 10 → fg_Q n y it p' ap' dp' a8' a9' → F' < fg_k w p' → fg_U w p' + F' = T → post (sz, ck, gd, ls, 2, nI F', ap', dp', a1, a2, a3, a4, a5, a6, a7, a8', a9')) :
    ∀ (c i q F : Nat) (ap dp : Int32) (a8 a9 : Nat → Int32), q + c = 11 → i + c ≤ 20 → fg_Q n y it q ap dp a8 a9 → F < 10 + w - fg_U w q → fg_U w q + F = T → wX_crawl_2 post c (nI i) sz ck gd ls st (nI F) ap dp a1 a2 a3 a4 a5 a6 a7 a8 a9 := by
  intro c
  induction c with
  | zero =>
    intro i q F ap dp a8 a9 h1 h2 hq hF he
    have : q = 11 := by omega
    subst this
    have : fg_U w 11 = 10 + w := by
      unfold fg_U
      rw [if_neg (by decide)]
    omega
  | succ c ih =>
    intro i q F ap dp a8 a9 h1 h2 hq hF he
    have hw := hc.2.1
    have hk : fg_k w q ≤ 16 := by
      unfold fg_k
      split <;> omega
    have hu := fg_Us (w := w) (p := q) (by omega)
    have ea := fg_ap hq (Or.inl (by omega))
    subst ea
    refine pk_le 24 i (fun z => absurd z (by omega)) (fun _ => fg_cost hc (by omega) (pk_lt F (fg_k w q) (fun z => ?_) (fun z => fg_cost hc (by omega) (nm_r (pk_sub z) (fg_perf hc hq (by omega) (fun ap' dp' a8' a9' hq' => nm_r (nI_1 i) ?_))))))
    · exact H q F _ _ _ _ (by omega) hq z he
    · exact ih (i + 1) (q + 1) (F - fg_k w q) ap' dp' a8' a9' (by omega) (by omega) hq' (by omega) (by omega)
theorem fg_cr {F : Nat} (hc : fg_C w a1 a2) (hq : fg_Q n y it p ap dp a8 a9) (hp : p ≤ 10) (hF : F < 10 + w - fg_U w p)
    (H : ∀ p' F' ap' dp' a8' a9', p' ≤ 10 → fg_Q n y it p' ap' dp' a8' a9' → F' < fg_k w p' → fg_U w p' + F' = fg_U w p + F → post (sz, ck, gd, ls, 2, nI F', ap', dp', a1, a2, a3, a4, a5, a6, a7, a8', a9')) : wpX_crawl post (sz, ck, gd, ls, st, nI F, ap, dp, a1, a2, a3, a4, a5, a6, a7, a8, a9) := by
  have hw := hc.2.1
  exact ⟨11 - p, fg_cr2 hc (fg_U w p + F) H (11 - p) 0 p F ap dp a8 a9 (by omega) (by omega) hq hF rfl⟩
theorem fg_crE (hc : fg_C w a1 a2) (H : post (sz, ck, gd, ls, 2, nI 0, nI 11, dp, a1, a2, a3, a4, a5, a6, a7, a8, a9)) : wpX_crawl post (sz, ck, gd, ls, st, nI 0, nI 11, dp, a1, a2, a3, a4, a5, a6, a7, a8, a9) :=
  ⟨1, pk_le 24 0 (fun z => absurd z (by omega)) (fun _ => fg_cost hc (by decide) (pk_lt 0 1 (fun _ => H) (fun z => absurd z (by omega))))⟩
/-! ===== the rounds ===== -/
theorem fg_co7 (hc : fg_C w a1 a2) (hb : fg_B w a5 a6) (T : Nat)
    (H1 : ∀ F' ap' dp' a8' a9', fg_Q n y (n - 1) 11 ap' dp' a8' a9' → T = n * (10 + w) + 1 + F' → post (sz, ck, gd, ls, 1, nI F', ap', dp', a1, a2, a3, a4, a5, a6, a7, a8', a9'))
    (H2 : ∀ it' p' F' ap' dp' a8' a9', fg_Q n y it' p' ap' dp' a8' a9' → (p' ≤ 10 ∨ it' + 1 = n) → F' < fg_k w p' → it' * (10 + w) + fg_U w p' + F' = T → post (sz, ck, gd, ls, 2, nI F', ap', dp', a1, a2, a3, a4, a5, a6, a7, a8', a9')) :
    ∀ (c r it p F : Nat) (ap dp : Int32) (a8 a9 : Nat → Int32), n - it + (if p ≤ 10 then 2 else 1) ≤ c → r + c ≤ 2000 → fg_Q n y it p ap dp a8 a9 → (p ≤ 10 ∨ it + 1 = n) → F ≤ 2000 → it * (10 + w) + fg_U w p + F = T → wX_carryOn_7 post c (nI r) sz ck gd ls 0 (nI F) ap dp a1 a2 a3 a4 a5 a6 a7 a8 a9 := by
  have hw := hc.2.1
  intro c
  induction c with
  | zero =>
    intro r it p F ap dp a8 a9 h1
    exfalso
    split at h1 <;> omega
  | succ c ih =>
    intro r it p F ap dp a8 a9 h1 h2 hq hp hF hT
    have hx := hq.1
    have hp11 := hq.2.2.1
    have ea := fg_ap hq hp
    subst ea
    refine pk_lt 2000 r (fun z => absurd z (by omega)) (fun _ => br_t rfl ⟨pk_in p 24 (by omega), ?_⟩)
    rw [fg_cl (show p < 2000 by omega)]
    cases c with
    | zero =>
      exfalso
      split at h1 <;> omega
    | succ c =>
    by_cases e : p ≤ 10
    · rw [if_pos e] at h1
      rw [(hb.1 p e).1]
      refine pk_lt F (10 + w - fg_U w p) (fun z => ?_) (fun z => ?_)
      · refine fg_cr hc hq e z (fun p' F' ap' dp' a8' a9' e1 e2 e3 e4 => nm_r (nI_1 r) ?_)
        exact pk_lt 2000 (r + 1) (fun z => absurd z (by omega)) (fun _ => br_f (by decide) (H2 it p' F' ap' dp' a8' a9' e2 (Or.inl e1) e3 (by omega)))
      · refine fg_rb hc hb hq e z (fun ap' dp' a8' a9' hq' => nm_r (nI_1 r) ?_)
        have hu : fg_U w p ≤ 9 + w := fg_U0 e
        by_cases g : it + 1 < n
        · refine ih (r + 1) (it + 1) 0 _ ap' dp' a8' a9' ?_ (by omega) (fg_Qn hq' g) (Or.inl (by omega)) (by omega) ?_
          · rw [if_pos (by omega)]
            omega
          · rw [Nat.add_mul, Nat.one_mul, show fg_U w 0 = 0 from rfl]
            omega
        · refine ih (r + 1) it 11 _ ap' dp' a8' a9' ?_ (by omega) hq' (Or.inr (by omega)) (by omega) ?_
          · rw [if_neg (by omega)]
            omega
          · have : fg_U w 11 = 10 + w := by
              unfold fg_U
              rw [if_neg (by decide)]
            omega
    · have e11 : p = 11 := by omega
      subst e11
      have hn : it + 1 = n := by omega
      have hit : it = n - 1 := by omega
      have hU : fg_U w 11 = 10 + w := by
        unfold fg_U
        rw [if_neg (by decide)]
      have hT' : n * (10 + w) + F = T := by
        rw [← hn, Nat.add_mul, Nat.one_mul]
        omega
      rw [hb.2.1]
      refine pk_lt F 1 (fun z => ?_) (fun z => ?_)
      · have f0 : F = 0 := by omega
        subst f0
        refine fg_crE hc (nm_r (nI_1 r) ?_)
        exact pk_lt 2000 (r + 1) (fun z => absurd z (by omega)) (fun _ => br_f (by decide) (H2 it 11 0 _ _ _ _ hq (Or.inr hn) (show 0 < 1 by decide) hT))
      · refine fg_rbE hc hb z (nm_r (nI_1 r) ?_)
        rw [hit] at hq
        exact pk_lt 2000 (r + 1) (fun z => absurd z (by omega)) (fun _ => br_f (by decide) (H1 (F - 1) _ _ _ _ hq (by omega)))
theorem fg_co {F T : Nat} (hc : fg_C w a1 a2) (hb : fg_B w a5 a6) (hq : fg_Q n y it p ap dp a8 a9) (hp : p ≤ 10 ∨ it + 1 = n) (hF : F ≤ 2000) (hT : it * (10 + w) + fg_U w p + F = T)
    (H1 : ∀ F' ap' dp' a8' a9', fg_Q n y (n - 1) 11 ap' dp' a8' a9' → T = n * (10 + w) + 1 + F' → post (sz, ck, gd, ls, 1, nI F', ap', dp', a1, a2, a3, a4, a5, a6, a7, a8', a9'))
    (H2 : ∀ it' p' F' ap' dp' a8' a9', fg_Q n y it' p' ap' dp' a8' a9' → (p' ≤ 10 ∨ it' + 1 = n) → F' < fg_k w p' → it' * (10 + w) + fg_U w p' + F' = T → post (sz, ck, gd, ls, 2, nI F', ap', dp', a1, a2, a3, a4, a5, a6, a7, a8', a9')) : wpX_carryOn post (sz, ck, gd, ls, st, nI F, ap, dp, a1, a2, a3, a4, a5, a6, a7, a8, a9) := by
  have hn := hq.2.1
  exact ⟨100, fg_co7 hc hb T H1 H2 100 0 it p F ap dp a8 a9 (by split <;> omega) (by omega) hq hp hF hT⟩
end
end
section
section
variable {post : St2 → Prop} {sz ck gd ls st fu ap dp : Int32} {a1 a2 a3 a4 a5 a6 a7 a8 a9 : Nat → Int32} {n w it p : Nat} {y : Int32}
/-! ===== the check: heights, leaders, blocks ===== -/
theorem fg_jm {post : Int32 → Prop} {o : Nat} (ho : o ≤ 14) (H : post (nI (if o < 8 then 0 else if 10 < o then 0 else 1))) : wpX_jumps post () (nI o) := by
  refine pk_lt o 8 (fun z => ?_) (fun z => pk_lt 10 o (fun g => ?_) (fun g => ?_))
  · rw [if_pos z] at H
    exact H
  · rw [if_neg (by omega), if_pos g] at H
    exact H
  · rw [if_neg (by omega), if_neg (by omega)] at H
    exact H
theorem fg_gr {post : Int32 → Prop} (hp : p ≤ 10) (H : ∀ r, nI (fg_h p) + r = nI (fg_h (p + 1)) → post r) : wpX_growth post () (nI (fg_op p)) := by
  have hpc : p = 0 ∨ p = 1 ∨ p = 2 ∨ p = 3 ∨ p = 4 ∨ p = 5 ∨ p = 6 ∨ p = 7 ∨ p = 8 ∨ p = 9 ∨ p = 10 := by omega
  rcases hpc with rfl | rfl | rfl | rfl | rfl | rfl | rfl | rfl | rfl | rfl | rfl
  · exact br_f (by decide) (br_f (by decide) (br_f (by decide) (br_f (by decide) (br_f (by decide) (br_f (by decide) (br_f (by decide) (br_f (by decide) (br_f (by decide) (br_f (by decide) (br_f (by decide) (br_f (by decide) (br_f (by decide) (br_t rfl (H 1 (by decide)))))))))))))))
  · exact br_f (by decide) (br_f (by decide) (br_t rfl (H 1 (by decide))))
  · exact br_f (by decide) (br_f (by decide) (br_f (by decide) (br_f (by decide) (br_f (by decide) (br_f (by decide) (br_t rfl (H (-1) (by decide))))))))
  · exact br_f (by decide) (br_f (by decide) (br_f (by decide) (br_f (by decide) (br_f (by decide) (br_f (by decide) (br_f (by decide) (br_f (by decide) (br_f (by decide) (br_f (by decide) (br_f (by decide) (br_f (by decide) (br_f (by decide) (br_f (by decide) (br_t rfl (H (-1) (by decide))))))))))))))))
  · exact br_f (by decide) (br_f (by decide) (br_f (by decide) (br_f (by decide) (br_f (by decide) (br_f (by decide) (br_f (by decide) (br_f (by decide) (br_f (by decide) (br_f (by decide) (br_f (by decide) (br_f (by decide) (br_f (by decide) (br_t rfl (H 1 (by decide)))))))))))))))
  · exact br_f (by decide) (br_f (by decide) (br_f (by decide) (br_f (by decide) (br_f (by decide) (br_f (by decide) (br_f (by decide) (br_f (by decide) (br_f (by decide) (br_f (by decide) (br_f (by decide) (br_f (by decide) (br_f (by decide) (br_t rfl (H 1 (by decide)))))))))))))))
  · exact br_f (by decide) (br_f (by decide) (br_f (by decide) (br_f (by decide) (br_f (by decide) (br_t rfl (H (-1) (by decide)))))))
  · exact br_f (by decide) (br_f (by decide) (br_f (by decide) (br_f (by decide) (br_f (by decide) (br_f (by decide) (br_f (by decide) (br_f (by decide) (br_f (by decide) (br_f (by decide) (br_f (by decide) (br_f (by decide) (br_f (by decide) (br_f (by decide) (br_t rfl (H (-1) (by decide))))))))))))))))
  · exact br_f (by decide) (br_t (by decide) (H 0 (by decide)))
  · exact br_f (by decide) (br_f (by decide) (br_f (by decide) (br_f (by decide) (br_f (by decide) (br_f (by decide) (br_f (by decide) (br_f (by decide) (br_f (by decide) (br_f (by decide) (br_f (by decide) (br_f (by decide) (br_f (by decide) (br_t rfl (H 1 (by decide)))))))))))))))
  · exact br_f (by decide) (br_f (by decide) (br_f (by decide) (br_f (by decide) (br_f (by decide) (br_f (by decide) (br_f (by decide) (br_f (by decide) (br_f (by decide) (br_f (by decide) (br_f (by decide) (br_f (by decide) (br_t rfl (H (-1) (by decide))))))))))))))
theorem fg_us {post : Int32 → Prop} (hp : p ≤ 10) (H : ∀ r, ¬ nI (fg_h p) < r → post r) : wpX_uses post () (nI (fg_op p)) := by
  have hpc : p = 0 ∨ p = 1 ∨ p = 2 ∨ p = 3 ∨ p = 4 ∨ p = 5 ∨ p = 6 ∨ p = 7 ∨ p = 8 ∨ p = 9 ∨ p = 10 := by omega
  rcases hpc with rfl | rfl | rfl | rfl | rfl | rfl | rfl | rfl | rfl | rfl | rfl
  · exact br_f (by decide) (br_f (by decide) (br_f (by decide) (br_f (by decide) (br_f (by decide) (br_f (by decide) (br_f (by decide) (br_f (by decide) (br_f (by decide) (br_f (by decide) (br_f (by decide) (br_f (by decide) (br_t rfl (H 0 (by decide))))))))))))))
  · exact br_t (by decide) (H 0 (by decide))
  · exact br_f (by decide) (br_f (by decide) (br_f (by decide) (br_f (by decide) (br_f (by decide) (br_t rfl (H 2 (by decide)))))))
  · exact br_f (by decide) (br_f (by decide) (br_f (by decide) (br_f (by decide) (br_f (by decide) (br_f (by decide) (br_f (by decide) (br_f (by decide) (br_f (by decide) (br_f (by decide) (br_f (by decide) (br_f (by decide) (br_f (by decide) (br_t rfl (H 1 (by decide)))))))))))))))
  · exact br_f (by decide) (br_f (by decide) (br_f (by decide) (br_f (by decide) (br_f (by decide) (br_f (by decide) (br_f (by decide) (br_f (by decide) (br_f (by decide) (br_f (by decide) (br_f (by decide) (br_f (by decide) (br_t rfl (H 0 (by decide))))))))))))))
  · exact br_f (by decide) (br_f (by decide) (br_f (by decide) (br_f (by decide) (br_f (by decide) (br_f (by decide) (br_f (by decide) (br_f (by decide) (br_f (by decide) (br_f (by decide) (br_f (by decide) (br_f (by decide) (br_t rfl (H 0 (by decide))))))))))))))
  · exact br_f (by decide) (br_f (by decide) (br_f (by decide) (br_f (by decide) (br_t rfl (H 2 (by decide))))))
  · exact br_f (by decide) (br_f (by decide) (br_f (by decide) (br_f (by decide) (br_f (by decide) (br_f (by decide) (br_f (by decide) (br_f (by decide) (br_f (by decide) (br_f (by decide) (br_f (by decide) (br_f (by decide) (br_f (by decide) (br_t rfl (H 1 (by decide)))))))))))))))
  · exact br_f (by decide) (br_t (by decide) (H 0 (by decide)))
  · exact br_f (by decide) (br_f (by decide) (br_f (by decide) (br_f (by decide) (br_f (by decide) (br_f (by decide) (br_f (by decide) (br_f (by decide) (br_f (by decide) (br_f (by decide) (br_f (by decide) (br_f (by decide) (br_t rfl (H 0 (by decide))))))))))))))
  · exact br_f (by decide) (br_f (by decide) (br_f (by decide) (br_f (by decide) (br_f (by decide) (br_f (by decide) (br_f (by decide) (br_f (by decide) (br_f (by decide) (br_f (by decide) (br_f (by decide) (br_t rfl (H 1 (by decide)))))))))))))
theorem fg_new {h l : Nat} (hp : p < 12) (hl : l < 24) (h3 : a3 p = -1) (H : post (nI 12, ck, gd, nI (l + 1), st, fu, ap, dp, a1, a2, upd a3 p (nI h), a4, a5, a6, upd a7 l (nI p), a8, a9)) : wpX_comeTo post (nI 12, ck, gd, nI l, st, fu, ap, dp, a1, a2, a3, a4, a5, a6, a7, a8, a9) (nI p) (nI h) := by
  unfold wpX_comeTo
  dsimp only
  rw [fg_cl (show p < 2000 by omega), fg_cl (show l < 2000 by omega), h3]
  exact pk_lt p 0 (fun z => absurd z (by omega)) (fun _ => pk_lt p 12 (fun _ => ⟨pk_in p 24 (by omega), br_f (by decide) ⟨pk_in p 24 (by omega), nm_e ⟨pk_in l 24 hl, nm_e (nm_r (nI_1 l) H)⟩⟩⟩) (fun z => absurd z (by omega)))
theorem fg_old {h : Nat} (hp : p < 12) (hh : h < 24) (h3 : a3 p = nI h) (H : post (nI 12, ck, gd, ls, st, fu, ap, dp, a1, a2, a3, a4, a5, a6, a7, a8, a9)) : wpX_comeTo post (nI 12, ck, gd, ls, st, fu, ap, dp, a1, a2, a3, a4, a5, a6, a7, a8, a9) (nI p) (nI h) := by
  unfold wpX_comeTo
  dsimp only
  rw [fg_cl (show p < 2000 by omega), h3]
  exact pk_lt p 0 (fun z => absurd z (by omega)) (fun _ => pk_lt p 12 (fun _ => ⟨pk_in p 24 (by omega), br_t (nI_pos' (by omega)) ⟨pk_in p 24 (by omega), br_t rfl H⟩⟩) (fun z => absurd z (by omega)))
/-- i + 1 instructions are listed -/
def fg_J (i : Nat) (ls : Int32) (a3 a4 a7 : Nat → Int32) : Prop :=
  ls = nI (i + 1) ∧ (∀ j, j ≤ i → a7 j = nI j ∧ a3 j = nI (fg_h j)) ∧ (∀ j, i < j → j < 24 → a3 j = -1) ∧ (∀ j, 0 < j → j ≤ 10 → a4 j = 0)
theorem fg_Js {i : Nat} {ls : Int32} {a3 a4 a7 : Nat → Int32} (h : fg_J i ls a3 a4 a7) : fg_J (i + 1) (nI (i + 1 + 1)) (upd a3 (i + 1) (nI (fg_h (i + 1)))) a4 (upd a7 (i + 1) (nI (i + 1))) := by
  obtain ⟨h1, h2, h3, h4⟩ := h
  refine ⟨rfl, fun j hj => ?_, fun j hj hj2 => ?_, h4⟩
  · by_cases e : j = i + 1
    · rw [e, pk_us, pk_us]
      exact ⟨rfl, rfl⟩
    · rw [pk_un e, pk_un e]
      exact h2 j (by omega)
  · rw [pk_un (by omega)]
    exact h3 j (by omega) hj2
theorem fg_opn : ∀ p, p ≤ 9 → (if fg_op p < 8 then 0 else if 10 < fg_op p then 0 else 1) = 0 ∧ fg_op p ≠ 8 ∧ fg_op p ≠ 13 ∧ fg_op p ≤ 14 := by
  intro p hp
  have hpc : p = 0 ∨ p = 1 ∨ p = 2 ∨ p = 3 ∨ p = 4 ∨ p = 5 ∨ p = 6 ∨ p = 7 ∨ p = 8 ∨ p = 9 := by omega
  rcases hpc with rfl | rfl | rfl | rfl | rfl | rfl | rfl | rfl | rfl | rfl <;> decide
theorem fg_h2 : ∀ p, fg_h p ≤ 2 := by
  intro p
  unfold fg_h
  split <;> decide
/-- one instruction is followed -/
theorem fg_fo9 (hc : fg_C w a1 a2) (hp : p ≤ 9) (hj : fg_J p ls a3 a4 a7)
    (H : ∀ ls' a3' a4' a7', fg_J (p + 1) ls' a3' a4' a7' → post (nI 12, ck, 1, ls', st, fu, ap, dp, a1, a2, a3', a4', a5, a6, a7', a8, a9)) : wpX_follow post (nI 12, ck, 1, ls, st, fu, ap, dp, a1, a2, a3, a4, a5, a6, a7, a8, a9) (nI p) := by
  obtain ⟨o1, o2, o3, o4⟩ := fg_opn p hp
  have hh := fg_h2 (p + 1)
  have hJ := fg_Js hj
  obtain ⟨j1, j2, j3, j4⟩ := hj
  subst j1
  unfold wpX_follow
  dsimp only
  rw [fg_cl (show p < 2000 by omega), hc.2.2.1 p (by omega), (j2 p (Nat.le_refl p)).2]
  refine ⟨pk_in p 24 (by omega), nm_e ⟨pk_in p 24 (by omega), nm_e (fg_gr (by omega) (fun r hr => nm_r hr (fg_us (by omega) (fun q hq => br_f hq (pk_le (fg_h (p + 1)) 8 (fun _ => ?_) (fun z => absurd z (by omega)))))))⟩⟩
  refine pk_eq (fg_op p) 13 (fun z => absurd z o3) (fun _ => fg_jm o4 (br_t (by rw [o1]; rfl) ?_))
  refine pk_eq (fg_op p) 8 (fun z => absurd z o2) (fun _ => ?_)
  rw [nI_1]
  refine fg_new (by omega) (by omega) (j3 (p + 1) (by omega) (by omega)) ?_
  exact pk_eq (fg_op p) 8 (fun z => absurd z o2) (fun _ => fg_jm o4 (br_t (by rw [o1]; rfl) (H _ _ _ _ hJ)))
theorem fg_fo10 (hc : fg_C w a1 a2) (hj : fg_J 10 ls a3 a4 a7)
    (H : ∀ ls' a3' a4' a7', fg_J 11 ls' a3' a4' a7' → post (nI 12, ck, 1, ls', st, fu, ap, dp, a1, a2, a3', a4', a5, a6, a7', a8, a9)) : wpX_follow post (nI 12, ck, 1, ls, st, fu, ap, dp, a1, a2, a3, a4, a5, a6, a7, a8, a9) (nI 10) := by
  have hJ := fg_Js hj
  obtain ⟨j1, j2, j3, j4⟩ := hj
  subst j1
  unfold wpX_follow
  dsimp only
  have c2 : a2 10 = nI 0 := hc.2.2.2.1 10 (by decide) (by decide)
  rw [fg_cl (show 10 < 2000 by omega), hc.2.2.1 10 (by omega), (j2 10 (Nat.le_refl 10)).2, c2]
  refine ⟨pk_in 10 24 (by omega), nm_e ⟨pk_in 10 24 (by omega), nm_e (fg_gr (by omega) (fun r hr => nm_r hr (fg_us (by omega) (fun q hq => br_f hq (pk_le 0 8 (fun _ => ?_) (fun z => absurd z (by omega)))))))⟩⟩
  refine pk_eq 10 13 (fun z => absurd z (by decide)) (fun _ => fg_jm (o := 10) (by decide) (br_f (by decide) ⟨pk_in 10 24 (by omega), ?_⟩))
  refine fg_old (p := 0) (h := 0) (by decide) (by decide) (j2 0 (by decide)).2 ?_
  dsimp only
  refine br_f (by decide) ⟨pk_in 10 24 (by omega), ?_⟩
  rw [c2]
  refine ⟨pk_in 0 24 (by omega), nm_e ?_⟩
  refine pk_eq 10 8 (fun z => absurd z (by decide)) (fun _ => ?_)
  rw [show nI 10 + 1 = nI 11 from nI_1 10]
  refine fg_new (p := 11) (h := 0) (by decide) (by decide) (j3 11 (by omega) (by omega)) ?_
  refine pk_eq 10 8 (fun z => absurd z (by decide)) (fun _ => fg_jm (o := 10) (by decide) (br_f (by decide) (br_f (by decide) ⟨pk_in 11 24 (by decide) (nI_1 10), nm_e (H _ _ _ _ ?_)⟩)))
  obtain ⟨k1, k2, k3, k4⟩ := hJ
  refine ⟨k1, k2, k3, fun j hj hj2 => ?_⟩
  rw [fg_cl (show 0 < 2000 by omega), show ((nI 10) + 1).toNatClampNeg = 11 from by rw [nI_1, fg_cl (by omega)], pk_un (by omega), pk_un (by omega)]
  exact j4 j hj hj2
theorem fg_fo11 (hc : fg_C w a1 a2) (hj : fg_J 11 ls a3 a4 a7)
    (H : post (nI 12, ck, 1, ls, st, fu, ap, dp, a1, a2, a3, a4, a5, a6, a7, a8, a9)) : wpX_follow post (nI 12, ck, 1, ls, st, fu, ap, dp, a1, a2, a3, a4, a5, a6, a7, a8, a9) (nI 11) := by
  obtain ⟨j1, j2, j3, j4⟩ := hj
  subst j1
  unfold wpX_follow
  dsimp only
  rw [fg_cl (show 11 < 2000 by omega), hc.2.2.1 11 (by omega), (j2 11 (Nat.le_refl 11)).2]
  refine ⟨pk_in 11 24 (by omega), nm_e ⟨pk_in 11 24 (by omega), nm_e ?_⟩⟩
  refine br_f (by decide) (br_t (by decide) (nm_r (e' := nI 0) (by decide) ?_))
  refine br_f (by decide) (br_t (by decide) ?_)
  exact br_f (by decide) (br_t (by decide) (br_t (by decide) H))
/-- the blocks from place i on are made -/
def fg_BI (w i : Nat) (a5 a6 : Nat → Int32) : Prop :=
  (∀ j, i ≤ j → j ≤ 10 → a5 j = nI (10 + w - fg_U w j) ∧ a6 j = nI 10) ∧ (i ≤ 11 → a5 11 = nI 1 ∧ a6 11 = nI 11)
theorem fg_BIs {i : Nat} {a5 a6 : Nat → Int32} (hi : i ≤ 10) (h : fg_BI w (i + 1) a5 a6) {v5 v6 : Int32} (h5 : v5 = nI (10 + w - fg_U w i)) (h6 : v6 = nI 10) : fg_BI w i (upd a5 i v5) (upd a6 i v6) := by
  obtain ⟨h1, h2⟩ := h
  refine ⟨fun j hj hj2 => ?_, fun _ => ?_⟩
  · by_cases e : j = i
    · rw [e, pk_us, pk_us]
      exact ⟨h5, h6⟩
    · rw [pk_un e, pk_un e]
      exact h1 j (by omega) hj2
  · rw [pk_un (by omega), pk_un (by omega)]
    exact h2 (by omega)
theorem fg_mb (hc : fg_C w a1 a2) (hj : fg_J 11 ls a3 a4 a7)
    (H : ∀ a5' a6', fg_B w a5' a6' → post (nI 12, ck, gd, ls, st, fu, ap, dp, a1, a2, a3, a4, a5', a6', a7, a8, a9)) : wpX_makeBlocks post (nI 12, ck, gd, ls, st, fu, ap, dp, a1, a2, a3, a4, a5, a6, a7, a8, a9) := by
  have hl := hj.2.2.2
  have hw0 := hc.1
  have hw1 := hc.2.1
  refine nm_r (e' := nI 12 + (-1)) (by decide) ⟨13, ?_⟩
  refine pk_loopD (σ := (Nat → Int32) × (Nat → Int32)) (fun m i s => wX_makeBlocks_7 post (nI 12) ck gd ls st fu ap dp m (nI i + (-1)) a1 a2 a3 a4 s.1 s.2 a7 a8 a9) (fun i s => i ≤ 12 ∧ fg_BI w i s.1 s.2) ?_ ?_ 12 (a5, a6) ⟨by decide, fun j h1 h2 => absurd h1 (by omega), fun h => absurd h (by omega)⟩
  · intro m s h
    exact br_t (by decide) (H _ _ ⟨fun j hj => h.2.1 j (by omega) hj, h.2.2 (by omega)⟩)
  · intro m i s h hw
    obtain ⟨hi, hB⟩ := h
    show wX_makeBlocks_7 post (nI 12) ck gd ls st fu ap dp (m + 1) (nI (i + 1) + (-1)) a1 a2 a3 a4 s.1 s.2 a7 a8 a9
    rw [pk_m1]
    refine br_f (nI_pos (by omega)) (fg_cost hc (by omega) ⟨pk_in i 24 (by omega), ?_⟩)
    rw [fg_cl (show i < 2000 by omega), hc.2.2.1 i (by omega)]
    by_cases e9 : i ≤ 9
    · obtain ⟨o1, o2, o3, o4⟩ := fg_opn i e9
      refine fg_jm o4 (br_t (by rw [o1]; rfl) ⟨pk_in i 24 (by omega), pk_eq (fg_op i) 13 (fun z => absurd z o3) (fun _ => pk_eq i 11 (fun z => absurd z (by omega)) (fun _ => ?_) rfl (by decide))⟩)
      rw [nI_1, fg_cl (show i + 1 < 2000 by omega)]
      refine ⟨pk_in (i + 1) 24 (by omega), br_t (hl (i + 1) (by omega) (by omega)) (br_t rfl ?_)⟩
      rw [nI_1, fg_cl (show i + 1 < 2000 by omega)]
      refine ⟨pk_in (i + 1) 24 (by omega), pk_in i 24 (by omega), nm_e (br_t rfl ?_)⟩
      rw [nI_1, fg_cl (show i + 1 < 2000 by omega), fg_cl (show i < 2000 by omega)]
      refine ⟨pk_in (i + 1) 24 (by omega), pk_in i 24 (by omega), nm_e (nm_e (hw (_, _) ⟨by omega, fg_BIs (by omega) hB ?_ (hB.1 (i + 1) (by omega) (by omega)).2⟩))⟩
      rw [(hB.1 (i + 1) (by omega) (by omega)).1, nI_add]
      have hu := fg_Us (w := w) (p := i) (by omega)
      have hu2 := fg_U0 (w := w) (p := i + 1) (by omega)
      rw [show fg_k w i + (10 + w - fg_U w (i + 1)) = 10 + w - fg_U w i by omega]
    · by_cases e10 : i = 10
      · subst e10
        refine fg_jm (o := 10) (by decide) (br_f (by decide) ?_)
        unfold wX_makeBlocks_61
        refine br_f (by decide) ⟨pk_in 10 24 (by omega), nm_e (br_f (by decide) ⟨pk_in 10 24 (by omega), nm_e (nm_e ?_)⟩)⟩
        rw [fg_cl (show 10 < 2000 by omega)]
        exact hw (_, _) ⟨by omega, fg_BIs (by omega) hB (by rw [show 10 + w - fg_U w 10 = 1 from (by unfold fg_U; rw [if_neg (by decide)]; omega)]; rfl) rfl⟩
      · have e11 : i = 11 := by omega
        subst e11
        refine fg_jm (o := 13) (by decide) (br_t rfl ⟨pk_in 11 24 (by omega), br_t rfl ?_⟩)
        unfold wX_makeBlocks_61
        refine br_f (by decide) ⟨pk_in 11 24 (by omega), nm_e (br_f (by decide) ⟨pk_in 11 24 (by omega), nm_e (nm_e ?_)⟩)⟩
        rw [fg_cl (show 11 < 2000 by omega)]
        refine hw (_, _) ⟨by omega, fun j hj hj2 => absurd hj (by omega), fun _ => ?_⟩
        show upd s.1 11 _ 11 = _ ∧ upd s.2 11 _ 11 = _
        rw [pk_us, pk_us]
        exact ⟨rfl, rfl⟩
/-- the whole check -/
theorem fg_ck85 (hc : fg_C w a1 a2) (hj : fg_J 0 ls a3 a4 a7)
    (H : ∀ ls' a3' a4' a5' a6' a7', fg_J 11 ls' a3' a4' a7' → fg_B w a5' a6' → post (nI 12, ck, 1, ls', st, fu, ap, dp, a1, a2, a3', a4', a5', a6', a7', a8, a9)) : ∃ fl, wX_check_85 post fl 0 (nI 12) ck 1 ls st fu ap dp a1 a2 a3 a4 a5 a6 a7 a8 a9 :=
  pk_loop (σ := Int32 × (Nat → Int32) × (Nat → Int32) × (Nat → Int32))
    (fun m i s => wX_check_85 post m (nI i) (nI 12) ck 1 s.1 st fu ap dp a1 a2 s.2.1 s.2.2.1 a5 a6 s.2.2.2 a8 a9)
    (fun i s => fg_J (min i 11) s.1 s.2.1 s.2.2.1 s.2.2.2) 12 0 (ls, a3, a4, a7) (by omega) hj
    (fun m s h => br_t (by
        have h' : fg_J 11 s.1 s.2.1 s.2.2.1 s.2.2.2 := h
        rw [h'.1]
        decide) (br_f (by decide) (fg_mb hc (show fg_J 11 s.1 s.2.1 s.2.2.1 s.2.2.2 from h) (fun a5' a6' hB => H _ _ _ _ _ _ h hB))))
    (fun m i s hi h hw => by
        have h' : fg_J (min i 11) s.1 s.2.1 s.2.2.1 s.2.2.2 := h
        rw [show min i 11 = i by omega] at h'
        refine br_f (by rw [h'.1]; exact nI_ge (by omega) (by omega)) (br_f (by decide) ⟨pk_in i 24 (by omega), ?_⟩)
        rw [fg_cl (show i < 2000 by omega), (h'.2.1 i (Nat.le_refl i)).1]
        by_cases e9 : i ≤ 9
        · refine fg_fo9 hc e9 h' (fun ls' a3' a4' a7' hj' => nm_r (nI_1 i) (hw (ls', a3', a4', a7') ?_))
          show fg_J (min (i + 1) 11) ls' a3' a4' a7'
          rw [show min (i + 1) 11 = i + 1 by omega]
          exact hj'
        · by_cases e10 : i = 10
          · subst e10
            exact fg_fo10 hc h' (fun ls' a3' a4' a7' hj' => nm_r (nI_1 10) (hw (ls', a3', a4', a7') hj'))
          · have e11 : i = 11 := by omega
            subst e11
            exact fg_fo11 hc h' (nm_r (nI_1 11) (hw s h')))
theorem fg_ck36 (hc : fg_C w a1 a2)
    (H : ∀ ls' a3' a4' a5' a6' a7', fg_J 11 ls' a3' a4' a7' → fg_B w a5' a6' → post (nI 12, ck, 1, ls', st, fu, ap, dp, a1, a2, a3', a4', a5', a6', a7', a8, a9)) : ∃ fl, wX_check_36 post (nI 12) ck 1 0 st fu ap dp fl 0 a1 a2 a3 a4 a5 a6 a7 a8 a9 :=
  pk_loop (σ := (Nat → Int32) × (Nat → Int32))
    (fun m i s => wX_check_36 post (nI 12) ck 1 0 st fu ap dp m (nI i) a1 a2 s.1 s.2 a5 a6 a7 a8 a9)
    (fun i s => ∀ j, j < i → s.1 j = -1 ∧ (0 < j → s.2 j = 0)) 24 0 (a3, a4) (by omega) (fun j hj => absurd hj (by omega))
    (fun m s h => br_t (by decide) (br_f (by decide) (fg_new (p := 0) (h := 0) (l := 0) (by decide) (by decide) (h 0 (by decide)).1 (fg_ck85 hc ⟨rfl, fun j hj => by
        have e : j = 0 := by omega
        subst e
        exact ⟨rfl, rfl⟩, fun j hj hj2 => by
        rw [pk_un (by omega)]
        exact (h j hj2).1, fun j hj hj2 => (h j (by omega)).2 hj⟩ H))))
    (fun m i s hi h hw => by
        refine br_f (nI_ge (b := 24) hi (by decide)) ⟨pk_in i 24 hi, ?_⟩
        rw [fg_cl (show i < 2000 by omega)]
        refine nm_e (pk_eq i 0 (fun z => ⟨pk_in i 24 hi, nm_e (nm_r (nI_1 i) (hw (_, _) (fun j hj => ?_)))⟩) (fun z => ⟨pk_in i 24 hi, nm_e (nm_r (nI_1 i) (hw (_, _) (fun j hj => ?_)))⟩))
        · dsimp only
          by_cases e : j = i
          · rw [e]
            exact ⟨pk_us, fun g => absurd g (by omega)⟩
          · exact ⟨(pk_un e).trans (h j (by omega)).1, fun g => (pk_un e).trans ((h j (by omega)).2 g)⟩
        · dsimp only
          by_cases e : j = i
          · rw [e]
            exact ⟨pk_us, fun g => pk_us⟩
          · exact ⟨(pk_un e).trans (h j (by omega)).1, fun g => (pk_un e).trans ((h j (by omega)).2 g)⟩)
theorem fg_chk (hc : fg_C w a1 a2)
    (H : ∀ ls' a3' a4' a5' a6' a7', fg_J 11 ls' a3' a4' a7' → fg_B w a5' a6' → post (nI 12, 1, 1, ls', st, fu, ap, dp, a1, a2, a3', a4', a5', a6', a7', a8, a9)) : wpX_check post (nI 12, 0, gd, ls, st, fu, ap, dp, a1, a2, a3, a4, a5, a6, a7, a8, a9) :=
  br_t rfl (br_f (by decide) (fg_ck36 hc H))
end
end
section
section
variable {sz ck gd ls st fu ap dp : Int32} {a1 a2 a3 a4 a5 a6 a7 a8 a9 : Nat → Int32} {n w it p : Nat} {y : Int32}
/-! ===== small methods ===== -/
theorem fg_clN {post : Int32 → Prop} {k : Nat} (hk : k < 2 ^ 31) (H : post (nI (min k 2000))) : wpX_clampFuel post () (nI k) := by
  refine br_t (nI_pos' hk) (pk_le k 2000 (fun z => ?_) (fun z => ?_))
  · rw [show min k 2000 = k by omega] at H
    exact H
  · rw [show min k 2000 = 2000 by omega] at H
    exact H
/-- x is clamped to a -/
def fg_cp (x : Int32) (a : Nat) : Prop :=
  a ≤ 2000 ∧ ∀ P : Int32 → Prop, P (nI a) → (0 ≤ x → (x ≤ 2000 → P x) ∧ (¬ x ≤ 2000 → P 2000)) ∧ (¬ 0 ≤ x → P 0)
theorem fg_cpC {post : Int32 → Prop} {x : Int32} {a : Nat} (h : fg_cp x a) (H : post (nI a)) : wpX_clampFuel post () x := h.2 post H
theorem fg_cpE (x : Int32) : ∃ a, fg_cp x a := by
  by_cases h : 0 ≤ x
  · by_cases h2 : x ≤ 2000
    · have h0 : ¬ x < 0 := fun g => by
        rw [Int32.lt_iff_toInt_lt] at g
        rw [Int32.le_iff_toInt_le] at h
        omega
      obtain ⟨j, hj, e⟩ := nI_of2 (M := 2000) (n := 2000) (by decide) h0 h2
      subst e
      exact ⟨j, hj, fun P hP => br_t h (br_t h2 hP)⟩
    · exact ⟨2000, Nat.le_refl _, fun P hP => br_t h (br_f h2 hP)⟩
  · exact ⟨0, by omega, fun P hP => br_f h hP⟩
theorem fg_get {post : Int32 → Prop} {i : Nat} (hi : i < 4) (H : post (a9 i)) : wpX_get post (sz, ck, gd, ls, st, fu, ap, dp, a1, a2, a3, a4, a5, a6, a7, a8, a9) (nI i) := by
  unfold wpX_get
  dsimp only
  rw [fg_m4 i hi, fg_cl (show i < 2000 by omega)]
  exact ⟨pk_in i 4 hi, H⟩
theorem fg_hgt {post : Int32 → St2 → Prop} (hp : p ≤ 11) (hj : fg_J 11 ls a3 a4 a7) (H : post (nI (fg_h p)) (nI 12, 1, 1, ls, st, fu, ap, dp, a1, a2, a3, a4, a5, a6, a7, a8, a9)) : wpX_height post (nI 12, 1, 1, ls, st, fu, ap, dp, a1, a2, a3, a4, a5, a6, a7, a8, a9) (nI p) := by
  have h3 := (hj.2.1 p hp).2
  have hh := fg_h2 p
  unfold wpX_height
  refine br_f (by decide) (br_f (by decide) (br_f (nI_pos (by omega)) (br_f (nI_ge (b := 12) (by omega) (by decide)) ⟨pk_in p 24 (by omega), ?_⟩)))
  rw [fg_cl (show p < 2000 by omega), h3]
  exact br_t (nI_pos' (by omega)) ⟨pk_in p 24 (by omega), H⟩
theorem fg_hgt12 {post : Int32 → St2 → Prop} (H : post (-4) (nI 12, 1, 1, ls, st, fu, ap, dp, a1, a2, a3, a4, a5, a6, a7, a8, a9)) : wpX_height post (nI 12, 1, 1, ls, st, fu, ap, dp, a1, a2, a3, a4, a5, a6, a7, a8, a9) (nI 12) := by
  unfold wpX_height
  exact br_f (by decide) (br_f (by decide) (br_f (by decide) (br_t (by decide) H)))
theorem fg_emit {post : Int32 → St2 → Prop} {k o : Nat} {c : Int32} (hk : k < 24) (ho : o ≤ 14) (H : ∀ r, post r (nI (k + 1), 0, gd, ls, 0, 0, ap, dp, upd a1 k (nI o), upd a2 k c, a3, a4, a5, a6, a7, a8, a9)) : wpX_emit post (nI k, ck, gd, ls, st, fu, ap, dp, a1, a2, a3, a4, a5, a6, a7, a8, a9) (nI o) c := by
  unfold wpX_emit
  dsimp only
  rw [fg_cl (show k < 2000 by omega)]
  exact br_f (nI_pos (by omega)) (pk_le o 14 (fun _ => pk_lt k 24 (fun _ => ⟨pk_in k 24 hk, nm_e ⟨pk_in k 24 hk, nm_e (nm_r (nI_1 k) (H _))⟩⟩) (fun z => absurd z (by omega))) (fun z => absurd z (by omega)))
theorem fg_cell {post : Int32 → St2 → Prop} {i : Nat} {v : Int32} (hi : i < 4) (H : ∀ r, post r (sz, ck, gd, ls, st, fu, ap, dp, a1, a2, a3, a4, a5, a6, a7, a8, upd a9 i v)) : wpX_cell post (sz, ck, gd, ls, st, fu, ap, dp, a1, a2, a3, a4, a5, a6, a7, a8, a9) (nI i) v := by
  unfold wpX_cell
  dsimp only
  rw [fg_m4 i hi, fg_cl (show i < 2000 by omega)]
  exact ⟨pk_in i 4 hi, nm_e ⟨pk_in i 4 hi, nm_e (H _)⟩⟩
/-! ===== plain numbers ===== -/
theorem fg_le {F : Nat} (hn : it < n) (hp11 : p ≤ 11) (hp : p ≤ 10 ∨ it + 1 = n) (hF : F < fg_k w p) : it * (10 + w) + fg_U w p + F ≤ n * (10 + w) := by
  have h1 : (it + 1) * (10 + w) ≤ n * (10 + w) := Nat.mul_le_mul_right _ hn
  rw [Nat.add_mul, Nat.one_mul] at h1
  have h2 : fg_U w p + F ≤ 10 + w := by
    unfold fg_U
    unfold fg_k at hF
    split at hF <;> split <;> omega
  omega
theorem fg_dm {f L D R : Nat} (hL : R < L) (h : f = D * L + R) : f / L = D ∧ f % L = R := by
  subst h
  rw [Nat.add_comm, Nat.mul_comm]
  exact ⟨by rw [Nat.add_mul_div_left _ _ (by omega), Nat.div_eq_of_lt hL, Nat.zero_add], by rw [Nat.add_mul_mod_self_left, Nat.mod_eq_of_lt hL]⟩
/-- what the law reads off the fuel: a turn's number and the rest -/
theorem fg_dr {F f : Nat} (hn : it < n) (hp11 : p ≤ 11) (hp : p ≤ 10 ∨ it + 1 = n) (hF : F < fg_k w p) (hf : it * (10 + w) + fg_U w p + F = f) :
    ∃ D R, f / (10 + w) = D ∧ f % (10 + w) = R ∧ ((p ≤ 10 ∧ D = it ∧ R = fg_U w p + F) ∨ (p = 11 ∧ it + 1 = n ∧ D = n ∧ R = 0 ∧ F = 0)) := by
  by_cases e : p ≤ 10
  · have h2 : fg_U w p + F < 10 + w := by
      unfold fg_U
      unfold fg_k at hF
      split at hF <;> split <;> omega
    obtain ⟨g1, g2⟩ := fg_dm (f := f) (D := it) h2 (by omega)
    exact ⟨_, _, g1, g2, Or.inl ⟨e, rfl, rfl⟩⟩
  · have e11 : p = 11 := by omega
    subst e11
    have hi : it + 1 = n := by omega
    have hF0 : F = 0 := by
      unfold fg_k at hF
      rw [if_neg (by decide)] at hF
      omega
    have h1 : (it + 1) * (10 + w) = it * (10 + w) + (10 + w) := by rw [Nat.add_mul, Nat.one_mul]
    rw [hi] at h1
    have hU : fg_U w 11 = 10 + w := by
      unfold fg_U
      rw [if_neg (by decide)]
    obtain ⟨g1, g2⟩ := fg_dm (f := f) (L := 10 + w) (D := n) (R := 0) (by omega) (by omega)
    exact ⟨_, _, g1, g2, Or.inr ⟨rfl, hi, rfl, rfl, hF0⟩⟩
theorem fg_nL (hn : n ≤ 32) (hw : w ≤ 16) : n * (10 + w) ≤ 832 := Nat.mul_le_mul hn (show 10 + w ≤ 26 by omega)
/-! ===== the law behind the first run ===== -/
section
variable {post : Int32 → St0 → Prop} {mc ms kc ks : Nat} {x3 : Int32} {F f a : Nat}
theorem fg_L611 {z : Int32} {s : Nat} (hP : post 1 ()) (hc : fg_C w a1 a2) (hb : fg_B w a5 a6) (hq : fg_Q n y it p ap dp a8 a9) (hp : p ≤ 10 ∨ it + 1 = n) (hf : it * (10 + w) + fg_U w p + F = f) (hf2 : f ≤ 2000) (hm : fg_cp x3 a) (hs : s = min (F + a) 2000)
    (hz : (f - F + s < n * (10 + w) + 1 ∧ z = 0) ∨ (n * (10 + w) + 1 ≤ f - F + s ∧ z = 1)) :
    wL_lawOf_611 post mc ms y x3 (nI n) (nI (n * (10 + w) + 1)) (nI f) (nI F) (nI s) z kc ks sz ck gd ls 2 (nI F) ap dp a1 a2 a3 a4 a5 a6 a7 a8 a9 := by
  have hL := fg_nL hq.2.1 hc.2.1
  have ha := hm.1
  refine br_t rfl (fg_cpC hm ?_)
  rw [nI_add]
  refine fg_clN (by omega) ?_
  rw [← hs]
  refine fg_co (T := it * (10 + w) + fg_U w p + s) hc hb hq hp (by omega) rfl (fun F' ap' dp' a8' a9' hQ hT => ?_) (fun it' p' F' ap' dp' a8' a9' hQ hp' hF' hT => ?_)
  · rcases hz with ⟨z1, z2⟩ | ⟨z1, z2⟩
    · exact absurd z1 (by omega)
    · subst z2
      refine br_f (by decide) (br_t rfl (br_f (by decide) (br_t ?_ (fg_get (i := 1) (by decide) (br_t ?_ hP)))))
      · show nI F' = nI f - nI F + nI s - nI (n * (10 + w) + 1)
        rw [pk_sub (by omega), nI_add, pk_sub (by omega), show f - F + s - (n * (10 + w) + 1) = F' by omega]
      · have h1 := hQ.1
        have h7 : a9' 1 = nI (n - 1 + 1) * y := hQ.2.2.2.2.2.2.1
        rw [h7, show n - 1 + 1 = n by omega]
  · rcases hz with ⟨z1, z2⟩ | ⟨z1, z2⟩
    · subst z2
      exact br_t rfl (br_t rfl (br_t rfl hP))
    · have h := fg_le hQ.1 hQ.2.2.1 hp' hF'
      exact absurd z1 (by omega)
theorem fg_L560 (hP : post 1 ()) (hc : fg_C w a1 a2) (hb : fg_B w a5 a6) (hq : fg_Q n y it p ap dp a8 a9) (hp : p ≤ 10 ∨ it + 1 = n) (hf : it * (10 + w) + fg_U w p + F = f) (hf2 : f ≤ 2000) (hm : fg_cp x3 a) :
    wL_lawOf_560 post mc ms y x3 (nI n) (nI (n * (10 + w) + 1)) (nI f) (nI a) kc ks sz ck gd ls 2 (nI F) ap dp a1 a2 a3 a4 a5 a6 a7 a8 a9 := by
  have hL := fg_nL hq.2.1 hc.2.1
  have ha := hm.1
  have main : ∀ s, s = min (F + a) 2000 → wL_lawOf_591 post mc ms y x3 (nI n) (nI (n * (10 + w) + 1)) (nI f) (nI F) (nI s) kc ks sz ck gd ls 2 (nI F) ap dp a1 a2 a3 a4 a5 a6 a7 a8 a9 := by
    intro s hs
    refine pk_lt (f - F + s) (n * (10 + w) + 1) (fun z => ?_) (fun z => ?_) (by rw [pk_sub (by omega), nI_add]) rfl
    · exact fg_L611 hP hc hb hq hp hf hf2 hm hs (Or.inl ⟨z, rfl⟩)
    · exact fg_L611 hP hc hb hq hp hf hf2 hm hs (Or.inr ⟨z, rfl⟩)
  unfold wL_lawOf_560 wpX_fuel
  dsimp only
  rw [nI_add]
  exact pk_le (F + a) 2000 (fun z => main (F + a) (by omega)) (fun z => main 2000 (by omega))
theorem fg_L500 {R : Nat} {z : Int32} (hP : post 1 ()) (hc : fg_C w a1 a2) (hb : fg_B w a5 a6) (hq : fg_Q n y it p ap dp a8 a9) (hp : p ≤ 10 ∨ it + 1 = n) (hf : it * (10 + w) + fg_U w p + F = f) (hf2 : f ≤ 2000) (hm : fg_cp x3 a) (hz : z = nI p)
    (hR : p = 8 → 8 + F = R) (hR2 : p ≠ 8 → F = 0) :
    wL_lawOf_500 post mc ms y x3 (nI n) (nI (n * (10 + w) + 1)) (nI f) (nI R) z kc ks sz ck gd ls 2 (nI F) ap dp a1 a2 a3 a4 a5 a6 a7 a8 a9 := by
  have hp11 := hq.2.2.1
  have ea := fg_ap hq hp
  subst hz
  refine br_f (by decide) (br_t ea (pk_eq p 8 (fun e => ?_) (fun e => ?_)))
  · refine br_t ?_ (hm.2 (fun x => wL_lawOf_560 post mc ms y x3 (nI n) (nI (n * (10 + w) + 1)) (nI f) x kc ks sz ck gd ls 2 (nI F) ap dp a1 a2 a3 a4 a5 a6 a7 a8 a9) (fg_L560 hP hc hb hq hp hf hf2 hm))
    have h := pk_sub (a := R) (b := 8) (by have := hR e; omega)
    rw [show R - 8 = F by have := hR e; omega] at h
    exact h.symm
  · refine br_t ?_ (hm.2 (fun x => wL_lawOf_560 post mc ms y x3 (nI n) (nI (n * (10 + w) + 1)) (nI f) x kc ks sz ck gd ls 2 (nI F) ap dp a1 a2 a3 a4 a5 a6 a7 a8 a9) (fg_L560 hP hc hb hq hp hf hf2 hm))
    rw [hR2 e]
    rfl
theorem fg_L454 {D R : Nat} (hP : post 1 ()) (hc : fg_C w a1 a2) (hb : fg_B w a5 a6) (hq : fg_Q n y it p ap dp a8 a9) (hp : p ≤ 10 ∨ it + 1 = n) (hF : F < fg_k w p) (hf : it * (10 + w) + fg_U w p + F = f) (hf2 : f ≤ 2000) (hm : fg_cp x3 a)
    (hD : (p ≤ 10 ∧ D = it ∧ R = fg_U w p + F) ∨ (p = 11 ∧ it + 1 = n ∧ D = n ∧ R = 0 ∧ F = 0)) :
    wL_lawOf_454 post mc ms y x3 (nI n) (nI w) (nI (n * (10 + w) + 1)) (nI f) (nI D) (nI R) kc ks sz ck gd ls 2 (nI F) ap dp a1 a2 a3 a4 a5 a6 a7 a8 a9 := by
  have hn := hq.1
  have hn2 := hq.2.1
  have hw1 := hc.1
  have hw2 := hc.2.1
  have hR2 : p ≠ 8 → F = 0 := fun e => by
    unfold fg_k at hF
    rw [if_neg e] at hF
    omega
  have hFw : F < 16 := by
    unfold fg_k at hF
    split at hF <;> omega
  rcases hD with ⟨h1, h2, h3⟩ | ⟨h1, h2, h3, h4, h5⟩
  · have hR : p = 8 → 8 + F = R := fun e => by
      rw [h3, e]
      rfl
    have hU : (p ≤ 8 → fg_U w p = p) ∧ (¬ p ≤ 8 → fg_U w p = p - 1 + w) := ⟨fun g => if_pos g, fun g => if_neg g⟩
    have hRb : R < 30 := by
      by_cases g : p ≤ 8
      · have := hU.1 g
        omega
      · have := hU.2 g
        omega
    refine pk_eq D n (fun z => absurd z (by omega)) (fun _ => pk_le 8 R (fun z8 => ?_) (fun z8 => ?_))
    · refine pk_le (8 + w) R (fun zw => ?_) (fun zw => ?_) (nI_add 8 w) rfl
      · refine fg_L500 hP hc hb hq hp hf hf2 hm ?_ hR hR2
        rw [pk_sub (by omega), nI_1]
        have g : ¬ p ≤ 8 := fun g => by
          have := hU.1 g
          by_cases e : p = 8
          · unfold fg_k at hF
            rw [if_pos e] at hF
            omega
          · have := hR2 e
            omega
        have g2 := hU.2 g
        have g3 := hR2 (by omega)
        rw [show R - w + 1 = p by omega]
      · refine fg_L500 hP hc hb hq hp hf hf2 hm ?_ hR hR2
        have g : p ≤ 8 := by
          by_cases g : p ≤ 8
          · exact g
          · have := hU.2 g
            omega
        have g2 := hU.1 g
        have g3 : p = 8 := by
          by_cases e : p = 8
          · exact e
          · have := hR2 e
            omega
        rw [g3]
        rfl
    · refine fg_L500 hP hc hb hq hp hf hf2 hm ?_ hR hR2
      have g : p ≤ 8 := by
        by_cases g : p ≤ 8
        · exact g
        · have := hU.2 g
          omega
      have g2 := hU.1 g
      have g3 := hR2 (by omega)
      rw [show R = p by omega]
  · refine pk_eq D n (fun z => ?_) (fun z => absurd h3 z)
    refine fg_L500 hP hc hb hq hp hf hf2 hm ?_ (fun e => absurd e (by omega)) hR2
    rw [h1]
    rfl
/-- the run ended without fuel -/
theorem fg_Lno (hP : post 1 ()) (hc : fg_C w a1 a2) (hb : fg_B w a5 a6) (hq : fg_Q n y it p ap dp a8 a9) (hp : p ≤ 10 ∨ it + 1 = n) (hF : F < fg_k w p) (hf : it * (10 + w) + fg_U w p + F = f) (hf2 : f ≤ 2000) (hm : fg_cp x3 a) :
    wL_lawOf_275 post mc ms y x3 (nI n) (nI w) (nI (10 + w)) (nI (n * (10 + w) + 1)) (nI f) 2 2 2 kc ks sz ck gd ls 2 (nI F) ap dp a1 a2 a3 a4 a5 a6 a7 a8 a9 := by
  have hn := hq.1
  have hn2 := hq.2.1
  have hp11 := hq.2.2.1
  have hw1 := hc.1
  have hw2 := hc.2.1
  obtain ⟨D, R, g1, g2, g3⟩ := fg_dr hn hp11 hp hF hf
  have hRb : R < 30 := by
    have h : f % (10 + w) < 10 + w := Nat.mod_lt _ (by omega)
    rw [g2] at h
    omega
  have hDb : D ≤ 32 := by omega
  have h0 : ¬ nI (10 + w) = 0 := nI_ne0 (by omega) (by omega)
  have e1 : nI f / nI (10 + w) = nI D := by rw [pk_div (by omega) (by omega) (by omega), g1]
  have e2 : nI f - nI f / nI (10 + w) * nI (10 + w) = nI R := by rw [pk_rem (by omega) (by omega) (by omega), g2]
  have H := fg_L454 (mc := mc) (ms := ms) (kc := kc) (ks := ks) (gd := gd) (sz := sz) (ck := ck) (ls := ls) (a3 := a3) (a4 := a4) (a7 := a7) hP hc hb hq hp hF hf hf2 hm g3
  have hU : (p ≤ 8 → fg_U w p = p) ∧ (¬ p ≤ 8 → fg_U w p = p - 1 + w) := ⟨fun g => if_pos g, fun g => if_neg g⟩
  have hR2 : p ≠ 8 → F = 0 := fun e => by
    unfold fg_k at hF
    rw [if_neg e] at hF
    omega
  have q0 : a9 0 = nI (if p ≤ 3 then n - it else n - it - 1) := hq.2.2.2.2.2.1
  have q1 : a9 1 = nI (if p ≤ 7 then it else it + 1) * y := hq.2.2.2.2.2.2.1
  have c3 : D < n → (p ≤ 3 ↔ R ≤ 3) ∧ (p ≤ 7 ↔ R ≤ 7) ∧ D = it := by
    intro hD
    rcases g3 with ⟨k1, k2, k3⟩ | ⟨k1, k2, k3, k4, k5⟩
    · by_cases g : p ≤ 8
      · have := hU.1 g
        by_cases e : p = 8
        · omega
        · have := hR2 e
          omega
      · have := hU.2 g
        omega
    · omega
  have M : ∀ lo ad : Nat, (lo = if R ≤ 3 then D else D + 1) → (ad = if R ≤ 7 then D else D + 1) → wL_lawOf_416 post mc ms y x3 (nI n) (nI w) (nI (n * (10 + w) + 1)) (nI f) (nI D) (nI R) (nI lo) (nI ad) kc ks sz ck gd ls 2 (nI F) ap dp a1 a2 a3 a4 a5 a6 a7 a8 a9 := by
    intro lo ad hlo had
    refine pk_le n D (fun _ => H) (fun z => ?_)
    obtain ⟨k1, k2, k3⟩ := c3 z
    refine fg_get (i := 0) (by decide) (br_t ?_ (fg_get (i := 1) (by decide) (br_t ?_ H)))
    · rw [q0, hlo, pk_sub (by split <;> omega)]
      by_cases g : R ≤ 3
      · rw [if_pos (k1.mpr g), if_pos g, k3]
      · rw [if_neg (fun t => g (k1.mp t)), if_neg g, k3, Nat.sub_sub]
    · rw [q1, had]
      by_cases g : R ≤ 7
      · rw [if_pos (k2.mpr g), if_pos g, k3]
      · rw [if_neg (fun t => g (k2.mp t)), if_neg g, k3]
  refine br_t rfl (br_f (by decide) ⟨h0, nm_r e1 ⟨h0, nm_r e2 (pk_le R 3 (fun z3 => pk_le R 7 (fun z7 => ?_) (fun z7 => ?_)) (fun z3 => pk_le R 7 (fun z7 => ?_) (fun z7 => ?_)))⟩⟩)
  · exact M D D (by rw [if_pos z3]) (by rw [if_pos z7])
  · exact absurd z3 (by omega)
  · rw [nI_1]
    exact M (D + 1) D (by rw [if_neg (by omega)]) (by rw [if_pos z7])
  · rw [nI_1]
    exact M (D + 1) (D + 1) (by rw [if_neg (by omega)]) (by rw [if_neg (by omega)])
/-- the run came to its end -/
theorem fg_Lst (hP : post 1 ()) (hc : fg_C w a1 a2) (hq : fg_Q n y (n - 1) 11 ap dp a8 a9) (hf : f = n * (10 + w) + 1 + F) (hf2 : f ≤ 2000) :
    wL_lawOf_275 post mc ms y x3 (nI n) (nI w) (nI (10 + w)) (nI (n * (10 + w) + 1)) (nI f) 1 1 1 kc ks sz ck gd ls 1 (nI F) ap dp a1 a2 a3 a4 a5 a6 a7 a8 a9 := by
  have hn := hq.1
  have ea := fg_ap hq (Or.inr (by omega))
  have ed : dp = nI 0 := hq.2.2.2.2.1
  have q0 : a9 0 = nI (n - (n - 1) - 1) := hq.2.2.2.2.2.1
  have q1 : a9 1 = nI (n - 1 + 1) * y := hq.2.2.2.2.2.2.1
  have eF : nI F = nI f - nI (n * (10 + w) + 1) := by rw [pk_sub (by omega), show f - (n * (10 + w) + 1) = F by omega]
  refine br_t rfl (br_t rfl (br_t eF (br_f (by decide) (br_t ea (fg_get (i := 0) (by decide) (br_t ?_ (fg_get (i := 1) (by decide) (br_t ?_ (br_f (by decide) (br_t ed (br_f (by decide) (br_t rfl (br_t eF hP)))))))))))))
  · rw [q0, show n - (n - 1) - 1 = 0 by omega]
    rfl
  · rw [q1, show n - 1 + 1 = n by omega]
theorem fg_L251 {x2 z0 : Int32} (hP : post 1 ()) (hc : fg_C w a1 a2) (hb : fg_B w a5 a6) (hn : 0 < n) (hn2 : n ≤ 32) (h90 : a9 0 = nI n) (h91 : a9 1 = 0) (h92 : a9 2 = y) (hx : fg_cp x2 f) (hm : fg_cp x3 a) (hz : z0 = nI f) :
    wL_lawOf_251 post mc ms y x2 x3 (nI n) (nI w) (nI (10 + w)) (nI (n * (10 + w) + 1)) z0 kc ks sz 1 1 ls st fu ap dp a1 a2 a3 a4 a5 a6 a7 a8 a9 := by
  have hq : fg_Q n y 0 0 (nI 0) (nI 0) a8 a9 := ⟨hn, hn2, by decide, rfl, rfl, h90, by
    rw [h91]
    show (0 : Int32) = 0 * y
    grind, h92, trivial⟩
  have hL := fg_nL hn2 hc.2.1
  have hf := hx.1
  subst hz
  unfold wL_lawOf_251 wpX_run
  refine br_f (by decide) (br_f (by decide) (fg_cpC hx ?_))
  refine fg_co (it := 0) (p := 0) (T := f) hc hb hq (Or.inl (by decide)) hf (by rw [Nat.zero_mul, show fg_U w 0 = 0 from rfl]; omega) (fun F' ap' dp' a8' a9' hQ hT => ?_) (fun it' p' F' ap' dp' a8' a9' hQ hp' hF' hT => ?_)
  · exact pk_le (n * (10 + w) + 1) f (fun _ => fg_Lst hP hc hQ hT hf) (fun z => absurd z (by omega))
  · have h := fg_le hQ.1 hQ.2.2.1 hp' hF'
    exact pk_le (n * (10 + w) + 1) f (fun z => absurd z (by omega)) (fun _ => fg_Lno hP hc hb hQ hp' hF' hT hf hm)
end
end
end
section
/-! ===== the law ===== -/
theorem fg_code {w : Nat} {e : Int32} {a1 a2 : Nat → Int32} (hw0 : 0 < w) (hw : w ≤ 16) (he : (e &&& 15) + 1 = nI w)
    (h1 : a1 = upd (upd (upd (upd (upd (upd (upd (upd (upd (upd (upd (upd (fun _ => 0) 0 (nI 11)) 1 (nI 0)) 2 (nI 4)) 3 (nI 12)) 4 (nI 11)) 5 (nI 11)) 6 (nI 3)) 7 (nI 12)) 8 (nI 14)) 9 (nI 11)) 10 (nI 10)) 11 (nI 13))
    (h2 : a2 = upd (upd (upd (upd (upd (upd (upd (upd (upd (upd (upd (upd (fun _ => 0) 0 0) 1 1) 2 0) 3 0) 4 1) 5 2) 6 0) 7 1) 8 e) 9 0) 10 0) 11 0) : fg_C w a1 a2 := by
  subst h1 h2
  refine ⟨hw0, hw, fun j hj => ?_, fun j hj hj8 => ?_, he⟩
  · have hpc : j = 0 ∨ j = 1 ∨ j = 2 ∨ j = 3 ∨ j = 4 ∨ j = 5 ∨ j = 6 ∨ j = 7 ∨ j = 8 ∨ j = 9 ∨ j = 10 ∨ j = 11 := by omega
    rcases hpc with rfl | rfl | rfl | rfl | rfl | rfl | rfl | rfl | rfl | rfl | rfl | rfl <;> rfl
  · have hpc : j = 0 ∨ j = 1 ∨ j = 2 ∨ j = 3 ∨ j = 4 ∨ j = 5 ∨ j = 6 ∨ j = 7 ∨ j = 9 ∨ j = 10 ∨ j = 11 := by omega
    rcases hpc with rfl | rfl | rfl | rfl | rfl | rfl | rfl | rfl | rfl | rfl | rfl <;> rfl
theorem fg_lawOf {post : Int32 → St0 → Prop} (p0 p1 p2 p3 p4 : Int32) (hP : post 1 ()) : wpL_lawOf post 10 198 () p0 p1 p2 p3 p4 := by
  obtain ⟨i, hi, e0⟩ := pk_andE p0 (m := 31) 5 (by decide)
  obtain ⟨j, hj, e4⟩ := pk_andE p4 (m := 15) 4 (by decide)
  obtain ⟨f, hf⟩ := fg_cpE p2
  obtain ⟨a, ha⟩ := fg_cpE p3
  have hn : 1 + (p0 &&& 31) = nI (i + 1) := by
    rw [e0, Nat.add_comm]
    exact nI_add 1 i
  have hw : 1 + (p4 &&& 15) = nI (j + 1) := by
    rw [e4, Nat.add_comm]
    exact nI_add 1 j
  have hw2 : (p4 &&& 15) + 1 = nI (j + 1) := by
    rw [e4]
    exact nI_1 j
  unfold wpL_lawOf
  refine ⟨by decide, by decide, 9, 181, by decide, by decide, ?_⟩
  refine ⟨by decide, by decide, by decide, by decide, by decide, by decide, by decide, by decide, by decide, by decide, by decide, by decide, by decide, by decide, by decide, by decide, by decide, by decide, ?_⟩
  refine nm_r hn (nm_r hw ?_)
  refine fg_emit (k := 0) (o := 11) (by decide) (by decide) (fun r => ?_)
  refine fg_emit (k := 1) (o := 0) (by decide) (by decide) (fun r => ?_)
  refine fg_emit (k := 2) (o := 4) (by decide) (by decide) (fun r => ?_)
  refine fg_emit (k := 3) (o := 12) (by decide) (by decide) (fun r => ?_)
  refine fg_emit (k := 4) (o := 11) (by decide) (by decide) (fun r => ?_)
  refine fg_emit (k := 5) (o := 11) (by decide) (by decide) (fun r => ?_)
  refine fg_emit (k := 6) (o := 3) (by decide) (by decide) (fun r => ?_)
  refine fg_emit (k := 7) (o := 12) (by decide) (by decide) (fun r => ?_)
  refine fg_emit (k := 8) (o := 14) (by decide) (by decide) (fun r => ?_)
  refine fg_emit (k := 9) (o := 11) (by decide) (by decide) (fun r => ?_)
  refine fg_emit (k := 10) (o := 10) (by decide) (by decide) (fun r => ?_)
  refine fg_emit (k := 11) (o := 13) (by decide) (by decide) (fun r => ?_)
  refine fg_cell (i := 0) (by decide) (fun r => ?_)
  refine fg_cell (i := 2) (by decide) (fun r => ?_)
  unfold wpX_sound
  have hc := fg_code (w := j + 1) (e := p4) (by omega) (by omega) hw2 rfl rfl
  refine fg_chk hc (fun ls a3 a4 a5 a6 a7 hJ hB => ⟨rfl, br_f (by decide) ?_⟩)
  refine fg_hgt (p := 2) (by decide) hJ (br_t rfl ?_)
  refine fg_hgt (p := 6) (by decide) hJ (br_t rfl ?_)
  refine fg_hgt (p := 10) (by decide) hJ (br_t rfl ?_)
  refine fg_hgt (p := 11) (by decide) hJ (br_t rfl ?_)
  refine fg_hgt12 (br_t rfl ?_)
  refine nm_r (nI_add 10 (j + 1)) (nm_r ((congrArg (fun x => x + 1) (pk_mul (i + 1) (10 + (j + 1)))).trans (nI_1 _)) ?_)
  have k := hf.2 (fun z => z = nI f) rfl
  exact ⟨fun h => ⟨fun h2 => fg_L251 hP hc hB (by omega) (by omega) rfl rfl rfl hf ha ((k.1 h).1 h2), fun h2 => fg_L251 hP hc hB (by omega) (by omega) rfl rfl rfl hf ha ((k.1 h).2 h2)⟩, fun h => fg_L251 hP hc hB (by omega) (by omega) rfl rfl rfl hf ha (k.2 h)⟩
theorem fg_ca {post : Int32 → Prop} {L : Nat} {xs : Nat → Int32} {i : Nat} (hL : L ≤ 5) (hi : i < 5) (H : ∀ v, post v) : wpL_cellAt post L xs () (nI i) :=
  pk_le L i (fun _ => H _) (fun z => ⟨pk_in i L z, H _⟩)
theorem i_vc (xs : Nat → Int32) (L : Nat) (hL : L ≤ 5) : wpL_law (fun r => r = 1) L xs :=
  fg_ca (i := 0) hL (by decide) (fun v0 => fg_ca (i := 1) hL (by decide) (fun v1 => fg_ca (i := 2) hL (by decide) (fun v2 => fg_ca (i := 3) hL (by decide) (fun v3 => fg_ca (i := 4) hL (by decide) (fun v4 => ⟨10, 198, by decide, by decide, fg_lawOf v0 v1 v2 v3 v4 rfl⟩)))))
end
