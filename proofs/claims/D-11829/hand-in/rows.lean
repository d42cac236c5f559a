section
/-! packed rows of cells of eight bits, and the evaluator's three words: a branch, a forced value, a cell read or written -/
noncomputable def zh_c (c t e : Bool) : Bool := @Bool.rec (fun _ => Bool) e t c
noncomputable def zh_f (n : Nat) (k : Nat → Bool) : Bool := @Nat.rec (fun _ => Bool) (k 0) (fun m _ => k (Nat.succ m)) n
def zh_g (w i : Nat) : Nat := Nat.land (Nat.shiftRight w (Nat.mul 8 i)) 255
def zh_s (w i v : Nat) : Nat := Nat.xor w (Nat.shiftLeft (Nat.xor (zh_g w i) v) (Nat.mul 8 i))
theorem zh_fe (n : Nat) (k : Nat → Bool) : zh_f n k = k n := by
  cases n <;> rfl
theorem zn_a (a b : Nat) : Nat.add a b = a + b := rfl
theorem zn_s (a b : Nat) : Nat.sub a b = a - b := rfl
theorem zn_1 (a : Nat) : Nat.succ a = a + 1 := rfl
theorem zn_d (a b : Nat) : Nat.div a b = a / b := rfl
theorem zh_ce {c t e : Bool} (h : zh_c c t e = true) : (c = true ∧ t = true) ∨ (c = false ∧ e = true) := by
  cases c
  · exact Or.inr ⟨rfl, h⟩
  · exact Or.inl ⟨rfl, h⟩
theorem zh_and {c t : Bool} (h : zh_c c t false = true) : c = true ∧ t = true := by
  cases c
  · exact Bool.noConfusion (show false = true from h)
  · exact ⟨rfl, h⟩
theorem zh_lec {a b : Nat} {t e : Bool} (h : zh_c (Nat.ble a b) t e = true) : (a ≤ b ∧ t = true) ∨ (b < a ∧ e = true) := by
  rcases zh_ce h with ⟨hc, h⟩ | ⟨hc, h⟩
  · exact Or.inl ⟨Nat.le_of_ble_eq_true hc, h⟩
  · refine Or.inr ⟨?_, h⟩
    rcases Nat.lt_or_ge b a with z | z
    · exact z
    · rw [Nat.ble_eq_true_of_le z] at hc
      exact Bool.noConfusion hc
theorem zh_eqc {a b : Nat} {t e : Bool} (h : zh_c (Nat.beq a b) t e = true) : (a = b ∧ t = true) ∨ (a ≠ b ∧ e = true) := by
  rcases zh_ce h with ⟨hc, h⟩ | ⟨hc, h⟩
  · exact Or.inl ⟨Nat.eq_of_beq_eq_true hc, h⟩
  · refine Or.inr ⟨fun z => ?_, h⟩
    rw [z, Nat.beq_refl] at hc
    exact Bool.noConfusion hc
theorem zh_leT {a b : Nat} {t : Bool} (h : zh_c (Nat.ble a b) t false = true) : a ≤ b ∧ t = true := by
  rcases zh_lec h with h | h
  · exact h
  · exact Bool.noConfusion h.2
theorem zh_ltT {a b : Nat} {t : Bool} (h : zh_c (Nat.ble a b) false t = true) : b < a ∧ t = true := by
  rcases zh_lec h with h | h
  · exact Bool.noConfusion h.2
  · exact h
theorem zh_eqT {a b : Nat} {t : Bool} (h : zh_c (Nat.beq a b) t false = true) : a = b ∧ t = true := by
  rcases zh_eqc h with h | h
  · exact h
  · exact Bool.noConfusion h.2
theorem zh_neT {a b : Nat} {t : Bool} (h : zh_c (Nat.beq a b) false t = true) : a ≠ b ∧ t = true := by
  rcases zh_eqc h with h | h
  · exact Bool.noConfusion h.2
  · exact h
theorem zh_gd (w i : Nat) : zh_g w i = (w >>> (8 * i)) &&& (2 ^ 8 - 1) := rfl
theorem zh_sd (w i v : Nat) : zh_s w i v = w ^^^ ((zh_g w i ^^^ v) <<< (8 * i)) := rfl
theorem zh_gl (w i : Nat) : zh_g w i < 256 := by
  rw [zh_gd]
  exact Nat.and_lt_two_pow (n := 8) _ (by decide)
theorem zh_g0 (i : Nat) : zh_g 0 i = 0 := by
  rw [zh_gd, Nat.zero_shiftRight, Nat.zero_and]
theorem zh_gb (w i b : Nat) : (zh_g w i).testBit b = (w.testBit (8 * i + b) && decide (b < 8)) := by
  rw [zh_gd, Nat.testBit_and, Nat.testBit_shiftRight, Nat.testBit_two_pow_sub_one]
theorem zh_gs {v : Nat} (w i j : Nat) (hv : v < 256) : zh_g (zh_s w i v) j = if j = i then v else zh_g w j := by
  apply Nat.eq_of_testBit_eq
  intro b
  rw [zh_gb, zh_sd, Nat.testBit_xor, Nat.testBit_shiftLeft, Nat.testBit_xor, zh_gb]
  by_cases hj : j = i
  · subst hj
    rw [if_pos rfl, show 8 * j + b - 8 * j = b by omega]
    by_cases hb : b < 8
    · rw [decide_eq_true (show 8 * j + b ≥ 8 * j by omega), decide_eq_true hb]
      cases w.testBit (8 * j + b) <;> cases v.testBit b <;> rfl
    · rw [decide_eq_false hb, Bool.and_false]
      exact (Nat.testBit_lt_two_pow (Nat.lt_of_lt_of_le hv (show 2 ^ 8 ≤ 2 ^ b from Nat.pow_le_pow_right (by decide) (by omega)))).symm
  · rw [if_neg hj, zh_gb]
    by_cases hb : b < 8
    · by_cases hg : 8 * j + b ≥ 8 * i
      · have h8 : 8 ≤ 8 * j + b - 8 * i := by omega
        rw [decide_eq_false (show ¬ 8 * j + b - 8 * i < 8 by omega), Bool.and_false, Nat.testBit_lt_two_pow (x := v) (Nat.lt_of_lt_of_le hv (show 2 ^ 8 ≤ 2 ^ (8 * j + b - 8 * i) from Nat.pow_le_pow_right (by decide) h8))]
        simp
      · rw [decide_eq_false hg]
        simp
    · rw [decide_eq_false hb, Bool.and_false, Bool.and_false]
/-- what a code stands for: 255 is the law's own value -/
def zh_d (v : Int32) (c : Nat) : Int32 := if c = 255 then v else nI c
theorem zh_dl {v : Int32} {c : Nat} (h : c < 255) : zh_d v c = nI c := if_neg (by omega)
theorem zh_dv (v : Int32) : zh_d v 255 = v := if_pos rfl
/-- the first n places of a are the cells of w -/
def zh_R (n : Nat) (a : Nat → Int32) (w : Nat) : Prop := ∀ i, i < n → a i = nI (zh_g w i)
def zh_V (v : Int32) (n : Nat) (a : Nat → Int32) (w : Nat) : Prop := ∀ i, i < n → a i = zh_d v (zh_g w i)
theorem zh_Rs {n w i c : Nat} {a : Nat → Int32} {x : Int32} (h : zh_R n a w) (hx : x = nI c) (hc : c < 256) : zh_R n (upd a i x) (zh_s w i c) := by
  intro j hj
  rw [zh_gs w i j hc]
  by_cases e : j = i
  · rw [e, pk_us, if_pos rfl, hx]
  · rw [pk_un e, if_neg e]
    exact h j hj
theorem zh_Rp {n w c : Nat} {a : Nat → Int32} {x : Int32} (h : zh_R n a w) (hx : x = nI c) (hc : c < 256) : zh_R (n + 1) (upd a n x) (zh_s w n c) := by
  intro j hj
  rw [zh_gs w n j hc]
  by_cases e : j = n
  · rw [e, pk_us, if_pos rfl, hx]
  · rw [pk_un e, if_neg e]
    exact h j (by omega)
theorem zh_Rm {n m w : Nat} {a : Nat → Int32} (h : zh_R n a w) (hm : m ≤ n) : zh_R m a w := fun j hj => h j (by omega)
theorem zh_Vs {v : Int32} {n w i c : Nat} {a : Nat → Int32} {x : Int32} (h : zh_V v n a w) (hx : x = zh_d v c) (hc : c < 256) : zh_V v n (upd a i x) (zh_s w i c) := by
  intro j hj
  rw [zh_gs w i j hc]
  by_cases e : j = i
  · rw [e, pk_us, if_pos rfl, hx]
  · rw [pk_un e, if_neg e]
    exact h j hj
theorem zh_n0 {w i : Nat} (h : zh_g w i ≠ 0) : ¬ nI (zh_g w i) = 0 := nI_ne0 (by omega) (by have := zh_gl w i; omega)
theorem zh_i0 {w i : Nat} (h : zh_g w i = 0) : nI (zh_g w i) = 0 := by rw [h]; rfl
theorem zh_pr {n : Nat} (h : 0 < n) : nI n - 1 = nI (n - 1) := pk_sub (a := n) (b := 1) h
theorem zh_bo : ∀ c, c < 2 → vp_nar .boolean (nI c) = nI c := by
  intro c hc
  have h : c = 0 ∨ c = 1 := by omega
  rcases h with h | h
  · subst h; rfl
  · subst h; rfl
end
section
/-! the evaluator: each loop of the class as a plain function of naturals, with what comes behind it as an argument; false where the walk could not go on -/
noncomputable def zv_reach (k : Nat → Nat → Nat → Bool) (wt re st a : Nat) : Bool :=
  zh_f a (fun a => zh_c (Nat.ble 72 a) false (zh_c (Nat.beq (zh_g re a) 0) (zh_c (Nat.ble 40 wt) false (zh_f (zh_s re a 1) (fun re' => zh_f (zh_s st wt a) (fun st' => zh_f (Nat.succ wt) (fun wt' => k wt' re' st'))))) (k wt re st)))
noncomputable def zv_98b (k : Nat → Nat → Nat → Bool) (w r lim : Nat) (ih : Nat → Nat → Nat → Nat → Bool) (x wt re st : Nat) : Bool :=
  zh_c (Nat.ble x lim) (zh_c (Nat.ble 72 x) false (zh_f (Nat.succ x) (fun y => zh_c (Nat.beq (zh_g r x) 0) (ih y wt re st) (zv_reach (fun wt' re' st' => ih y wt' re' st') wt re st (zh_g w x))))) (k wt re st)
noncomputable def zv_98 (k : Nat → Nat → Nat → Bool) (w r lim n : Nat) : Nat → Nat → Nat → Nat → Bool :=
  @Nat.rec (fun _ => Nat → Nat → Nat → Nat → Bool) (fun _ _ _ _ => false) (fun _ ih => zv_98b k w r lim ih) n
noncomputable def zv_61b (k : Nat → Bool) (w r : Nat) (ih : Nat → Nat → Nat → Nat → Bool) (s wt re st : Nat) : Bool :=
  zh_c (Nat.ble 37 s) (k re) (zh_c (Nat.ble wt 0) (k re) (zh_f (Nat.sub wt 1) (fun wt' => zh_f (zh_g st wt') (fun c => zh_c (Nat.ble 72 c) false (zh_f (zh_g w c) (fun sz => zh_c (Nat.ble 72 sz) false (zh_f (Nat.add c sz) (fun lim => zh_f (Nat.succ c) (fun x => zh_f (Nat.succ s) (fun s' => zv_98 (fun wt'' re' st' => ih s' wt'' re' st') w r lim 80 x wt' re st))))))))))
noncomputable def zv_61 (k : Nat → Bool) (w r n : Nat) : Nat → Nat → Nat → Nat → Bool :=
  @Nat.rec (fun _ => Nat → Nat → Nat → Nat → Bool) (fun _ _ _ _ => false) (fun _ ih => zv_61b k w r ih) n
noncomputable def zv_28b (k : Nat → Bool) (w r h hr : Nat) (ih : Nat → Nat → Nat → Nat → Bool) (x wt re st : Nat) : Bool :=
  zh_c (Nat.ble 6 x) (zv_61 k w r 40 0 wt re st) (zh_f (Nat.succ x) (fun y => zh_c (Nat.beq (zh_g hr x) 0) (ih y wt re st) (zv_reach (fun wt' re' st' => ih y wt' re' st') wt re st (zh_g h x))))
noncomputable def zv_28 (k : Nat → Bool) (w r h hr n : Nat) : Nat → Nat → Nat → Nat → Bool :=
  @Nat.rec (fun _ => Nat → Nat → Nat → Nat → Bool) (fun _ _ _ _ => false) (fun _ ih => zv_28b k w r h hr ih) n
noncomputable def zv_14b (k : Nat → Nat → Nat → Bool) (top w re : Nat) (ih : Nat → Nat → Nat → Nat → Nat → Nat → Nat → Bool) (gap ing c s br ba bb : Nat) : Bool :=
  zh_c (Nat.ble 37 s) (k br ba bb) (zh_c (Nat.ble top c) (k br ba bb) (zh_c (Nat.ble 72 c) false (zh_f (zh_g w c) (fun sz => zh_c (Nat.ble 72 sz) false (zh_f (Nat.add c (Nat.succ sz)) (fun c' => zh_f (Nat.succ s) (fun s' => zh_c (Nat.beq (zh_g re c) 0) (zh_f (Nat.add gap (Nat.succ sz)) (fun gap' => ih gap' 1 c' s' br ba bb)) (zh_c (Nat.beq ing 0) (ih gap ing c' s' br ba bb) (zh_c (Nat.ble 40 br) false (zh_c (Nat.ble 256 gap) false (zh_f (zh_s ba br c) (fun ba' => zh_f (zh_s bb br gap) (fun bb' => zh_f (Nat.succ br) (fun br' => ih gap 0 c' s' br' ba' bb'))))))))))))))
noncomputable def zv_14 (k : Nat → Nat → Nat → Bool) (top w re n : Nat) : Nat → Nat → Nat → Nat → Nat → Nat → Nat → Bool :=
  @Nat.rec (fun _ => Nat → Nat → Nat → Nat → Nat → Nat → Nat → Bool) (fun _ _ _ _ _ _ _ => false) (fun _ ih => zv_14b k top w re ih) n
noncomputable def zv_mf (k : Nat → Bool) (bb a lo : Nat) : Bool :=
  zh_c (Nat.beq lo 0) (k a) (zh_f (zh_g bb (Nat.sub lo 1)) (fun d => zh_c (Nat.ble d a) (zh_f (Nat.sub a d) (fun b => k b)) false))
noncomputable def zv_mvb (k : Nat → Bool) (ba bb a : Nat) (ih : Nat → Nat → Nat → Bool) (lo hi s : Nat) : Bool :=
  zh_c (Nat.ble 7 s) (zv_mf k bb a lo) (zh_c (Nat.ble hi lo) (zv_mf k bb a lo) (zh_f (Nat.div (Nat.add lo hi) 2) (fun m => zh_f (Nat.succ s) (fun s' => zh_c (Nat.ble (zh_g ba m) a) (zh_f (Nat.succ m) (fun m' => ih m' hi s')) (ih lo m s')))))
noncomputable def zv_mv (k : Nat → Bool) (ba bb a n : Nat) : Nat → Nat → Nat → Bool :=
  @Nat.rec (fun _ => Nat → Nat → Nat → Bool) (fun _ _ _ => false) (fun _ ih => zv_mvb k ba bb a ih) n
noncomputable def zv_moved (k : Nat → Bool) (br ba bb a : Nat) : Bool := zh_f a (fun a => zh_c (Nat.ble 72 a) false (zv_mv k ba bb a 9 0 br 0))
noncomputable def zv_10b (k : Nat → Bool) (hr br ba bb : Nat) (ih : Nat → Nat → Bool) (x h : Nat) : Bool :=
  zh_c (Nat.ble 6 x) (k h) (zh_f (Nat.succ x) (fun y => zh_c (Nat.beq (zh_g hr x) 0) (ih y h) (zv_moved (fun d => zh_f (zh_s h x d) (fun h' => ih y h')) br ba bb (zh_g h x))))
noncomputable def zv_10 (k : Nat → Bool) (hr br ba bb n : Nat) : Nat → Nat → Bool :=
  @Nat.rec (fun _ => Nat → Nat → Bool) (fun _ _ => false) (fun _ ih => zv_10b k hr br ba bb ih) n
noncomputable def zv_32b (k : Nat → Bool) (r re br ba bb c lim : Nat) (ih : Nat → Nat → Bool) (x w : Nat) : Bool :=
  zh_c (Nat.ble lim x) (k w) (zh_f (Nat.succ x) (fun y => zh_c (Nat.beq (zh_g re c) 0) (ih y w) (zh_c (Nat.ble 72 x) false (zh_c (Nat.beq (zh_g r x) 0) (ih y w) (zv_moved (fun d => zh_f (zh_s w x d) (fun w' => ih y w')) br ba bb (zh_g w x))))))
noncomputable def zv_32 (k : Nat → Bool) (r re br ba bb c lim n : Nat) : Nat → Nat → Bool :=
  @Nat.rec (fun _ => Nat → Nat → Bool) (fun _ _ => false) (fun _ ih => zv_32b k r re br ba bb c lim ih) n
noncomputable def zv_4b (k : Nat → Bool) (top r re br ba bb : Nat) (ih : Nat → Nat → Nat → Bool) (c s w : Nat) : Bool :=
  zh_c (Nat.ble 37 s) (k w) (zh_c (Nat.ble top c) (k w) (zh_c (Nat.ble 72 c) false (zh_f (zh_g w c) (fun sz => zh_c (Nat.ble 72 sz) false (zh_f (Nat.add c (Nat.succ sz)) (fun lim => zh_f (Nat.succ c) (fun x => zh_f (Nat.succ s) (fun s' => zv_32 (fun w' => ih lim s' w') r re br ba bb c lim 80 x w))))))))
noncomputable def zv_4 (k : Nat → Bool) (top r re br ba bb n : Nat) : Nat → Nat → Nat → Bool :=
  @Nat.rec (fun _ => Nat → Nat → Nat → Bool) (fun _ _ _ => false) (fun _ ih => zv_4b k top r re br ba bb ih) n
noncomputable def zv_46b (k : Nat → Nat → Bool) (to c size : Nat) (ih : Nat → Nat → Nat → Bool) (x w r : Nat) : Bool :=
  zh_c (Nat.ble size x) (k w r) (zh_f (Nat.add c x) (fun i => zh_f (Nat.add to x) (fun j => zh_c (Nat.ble 72 i) false (zh_c (Nat.ble 72 j) false (zh_c (Nat.ble (zh_g r i) 1) (zh_f (zh_s w j (zh_g w i)) (fun w' => zh_f (zh_s r j (zh_g r i)) (fun r' => zh_f (Nat.succ x) (fun y => ih y w' r')))) false)))))
noncomputable def zv_46 (k : Nat → Nat → Bool) (to c size n : Nat) : Nat → Nat → Nat → Bool :=
  @Nat.rec (fun _ => Nat → Nat → Nat → Bool) (fun _ _ _ => false) (fun _ ih => zv_46b k to c size ih) n
noncomputable def zv_12b (k : Nat → Nat → Nat → Bool) (fin re : Nat) (ih : Nat → Nat → Nat → Nat → Nat → Bool) (to c s w r : Nat) : Bool :=
  zh_c (Nat.ble 37 s) (zh_c (Nat.ble to 72) (k to w r) false) (zh_c (Nat.ble fin c) (zh_c (Nat.ble to 72) (k to w r) false) (zh_c (Nat.ble 72 c) false (zh_f (zh_g w c) (fun sz => zh_c (Nat.ble 72 sz) false (zh_f (Nat.add c (Nat.succ sz)) (fun c' => zh_f (Nat.succ s) (fun s' => zh_c (Nat.beq (zh_g re c) 0) (ih to c' s' w r) (zh_f (Nat.add to (Nat.succ sz)) (fun to' => zv_46 (fun w' r' => ih to' c' s' w' r') to c (Nat.succ sz) 80 0 w r)))))))))
noncomputable def zv_12 (k : Nat → Nat → Nat → Bool) (fin re n : Nat) : Nat → Nat → Nat → Nat → Nat → Bool :=
  @Nat.rec (fun _ => Nat → Nat → Nat → Nat → Nat → Bool) (fun _ _ _ _ _ => false) (fun _ ih => zv_12b k fin re ih) n
noncomputable def zv_sq (k : Nat → Nat → Nat → Nat → Bool) (top w r h hr : Nat) : Bool :=
  zv_28 (fun re => zv_14 (fun br ba bb => zv_10 (fun h' => zv_4 (fun w' => zv_12 (fun t' w'' r' => k t' w'' r' h') top re 40 0 0 0 w' r) top r re br ba bb 40 0 0 w) hr br ba bb 9 0 h) top w re 40 0 0 0 0 0 0 0) w r h hr 9 0 0 0 0
noncomputable def zv_77b (k : Nat → Nat → Bool) (lim : Nat) (ih : Nat → Nat → Nat → Bool) (x w r : Nat) : Bool :=
  zh_c (Nat.ble x lim) (zh_f (zh_s w x 0) (fun w' => zh_f (zh_s r x 0) (fun r' => zh_f (Nat.succ x) (fun y => ih y w' r')))) (k w r)
noncomputable def zv_77 (k : Nat → Nat → Bool) (lim n : Nat) : Nat → Nat → Nat → Bool :=
  @Nat.rec (fun _ => Nat → Nat → Nat → Bool) (fun _ _ _ => false) (fun _ ih => zv_77b k lim ih) n
noncomputable def zv_mk2 (k : Nat → Nat → Nat → Nat → Nat → Bool) (d n top w r h hr : Nat) : Bool :=
  zh_c (Nat.ble (Nat.succ n) (Nat.sub 72 top)) (zh_f (zh_s w top n) (fun w' => zh_f (zh_s r top 0) (fun r' => zh_f (Nat.add top n) (fun lim => zh_f (Nat.succ top) (fun x => zv_77 (fun w'' r'' => zh_f (Nat.succ lim) (fun t' => zh_f (zh_s h d top) (fun h' => zh_f (zh_s hr d 1) (fun hr' => k t' w'' r'' h' hr')))) lim 80 x w' r'))))) false
noncomputable def zv_mk (k : Nat → Nat → Nat → Nat → Nat → Bool) (d n top w r h hr : Nat) : Bool :=
  zh_c (Nat.ble (Nat.succ n) (Nat.sub 72 top)) (zv_mk2 k d n top w r h hr) (zv_sq (fun t' w' r' h' => zv_mk2 k d n t' w' r' h' hr) top w r h hr)
noncomputable def zv_nm (k : Nat → Nat → Bool) (d c h hr : Nat) : Bool := zh_f (zh_s h d c) (fun h' => zh_f (zh_s hr d 0) (fun hr' => k h' hr'))
noncomputable def zv_at (k : Nat → Bool) (t fl w h hr : Nat) : Bool :=
  zh_c (Nat.beq (zh_g hr t) 0) false (zh_f (zh_g h t) (fun c => zh_c (Nat.ble 72 c) false (zh_f (zh_g w c) (fun sz => zh_c (Nat.ble 72 sz) false (zh_c (Nat.ble sz fl) false (zh_f (Nat.add (Nat.succ c) fl) (fun x => zh_c (Nat.ble 72 x) false (k x))))))))
noncomputable def zv_st (k : Nat → Nat → Bool) (t fl s w r h hr : Nat) : Bool :=
  zv_at (fun x => zh_c (Nat.ble (zh_g hr s) 1) (zh_f (zh_s w x (zh_g h s)) (fun w' => zh_f (zh_s r x (zh_g hr s)) (fun r' => k w' r'))) false) t fl w h hr
noncomputable def zv_ld (k : Nat → Nat → Bool) (d s fl w r h hr : Nat) : Bool :=
  zv_at (fun x => zh_c (Nat.ble (zh_g r x) 1) (zh_f (zh_s h d (zh_g w x)) (fun h' => zh_f (zh_s hr d (zh_g r x)) (fun hr' => k h' hr'))) false) s fl w h hr
noncomputable def zv_fl (w h hr x e : Nat) : Bool := zh_c (Nat.beq (zh_g hr x) 0) (Nat.beq e 0) (zh_c (Nat.ble 72 (zh_g h x)) false (Nat.beq (zh_g w (zh_g h x)) e))
end
section
/-! the walk of reach and markReached -/
theorem zv_98_s (k : Nat → Nat → Nat → Bool) (w r lim n x wt re st : Nat) : zv_98 k w r lim (n + 1) x wt re st = zh_c (Nat.ble x lim) (zh_c (Nat.ble 72 x) false (zh_c (Nat.beq (zh_g r x) 0) (zv_98 k w r lim n (x + 1) wt re st) (zv_reach (fun wt' re' st' => zv_98 k w r lim n (x + 1) wt' re' st') wt re st (zh_g w x)))) (k wt re st) := by
  show zv_98b k w r lim (zv_98 k w r lim n) x wt re st = _
  unfold zv_98b
  simp only [zh_fe, zn_a, zn_s, zn_1, zn_d]
theorem zv_61_s (k : Nat → Bool) (w r n s wt re st : Nat) : zv_61 k w r (n + 1) s wt re st = zh_c (Nat.ble 37 s) (k re) (zh_c (Nat.ble wt 0) (k re) (zh_c (Nat.ble 72 (zh_g st (wt - 1))) false (zh_c (Nat.ble 72 (zh_g w (zh_g st (wt - 1)))) false (zv_98 (fun wt'' re' st' => zv_61 k w r n (s + 1) wt'' re' st') w r (zh_g st (wt - 1) + zh_g w (zh_g st (wt - 1))) 80 (zh_g st (wt - 1) + 1) (wt - 1) re st)))) := by
  show zv_61b k w r (zv_61 k w r n) s wt re st = _
  unfold zv_61b
  simp only [zh_fe, zn_a, zn_s, zn_1, zn_d]
theorem zv_28_s (k : Nat → Bool) (w r h hr n x wt re st : Nat) : zv_28 k w r h hr (n + 1) x wt re st = zh_c (Nat.ble 6 x) (zv_61 k w r 40 0 wt re st) (zh_c (Nat.beq (zh_g hr x) 0) (zv_28 k w r h hr n (x + 1) wt re st) (zv_reach (fun wt' re' st' => zv_28 k w r h hr n (x + 1) wt' re' st') wt re st (zh_g h x))) := by
  show zv_28b k w r h hr (zv_28 k w r h hr n) x wt re st = _
  unfold zv_28b
  simp only [zh_fe, zn_a, zn_s, zn_1, zn_d]
theorem zh_reach {v p ft fb : Int32} {post : St2 → Prop} {k : Nat → Nat → Nat → Bool} {wt re st a : Nat} {a1 a2 a3 a4 a5 a6 a7 a8 : Nat → Int32} (h : zv_reach k wt re st a = true) (hp : p = zh_d v a) (h5 : zh_R 72 a5 re) (h6 : zh_R wt a6 st) (hw : wt ≤ 40)
    (H : ∀ (wt' re' st' : Nat) (b5 b6 : Nat → Int32), zh_R 72 b5 re' → zh_R wt' b6 st' → wt' ≤ 40 → k wt' re' st' = true → post (ft, nI wt', fb, a1, a2, a3, a4, b5, b6, a7, a8)) :
    wpX_reach post (ft, nI wt, fb, a1, a2, a3, a4, a5, a6, a7, a8) p := by
  unfold zv_reach at h
  rw [zh_fe] at h
  obtain ⟨ha, h⟩ := zh_ltT h
  have hp : p = nI a := by rw [hp, zh_dl (by omega)]
  subst hp
  unfold wpX_reach
  dsimp only
  rw [nI_clamp (show a < 2 ^ 31 by omega), h5 a ha]
  refine ⟨pk_in a 72 ha, ?_⟩
  rcases zh_eqc h with ⟨e, h⟩ | ⟨e, h⟩
  · obtain ⟨hq, h⟩ := zh_ltT h
    simp only [zh_fe, zn_1] at h
    refine br_t (zh_i0 e) ⟨pk_in a 72 ha, nm_e ⟨pk_in wt 40 hq, nm_r (by rw [nI_clamp (show wt < 2 ^ 31 by omega)]) (nm_r (nI_1 wt) ?_)⟩⟩
    exact H _ _ _ _ _ (zh_Rs (c := 1) h5 rfl (by omega)) (zh_Rp h6 rfl (by omega)) (by omega) h
  · exact br_f (zh_n0 e) (H _ _ _ _ _ h5 h6 hw h)
theorem zh_98 {v x1 ft fb : Int32} {post : St2 → Prop} {J : Int32 → Int32 → Int32 → Int32 → (Nat → Int32) → (Nat → Int32) → (Nat → Int32) → (Nat → Int32) → (Nat → Int32) → (Nat → Int32) → (Nat → Int32) → (Nat → Int32) → Prop} {k : Nat → Nat → Nat → Bool} {w r c sz : Nat} {a1 a2 a3 a4 a7 a8 : Nat → Int32} (h1 : zh_V v 72 a1 w) (h2 : zh_R 72 a2 r) (hc : c < 72) (hz : a1 c = nI sz) (hs : sz < 72)
    (HJ : ∀ (wt re st : Nat) (a5 a6 : Nat → Int32), zh_R 72 a5 re → zh_R wt a6 st → wt ≤ 40 → k wt re st = true → J (x1 + 1) ft (nI wt) fb a1 a2 a3 a4 a5 a6 a7 a8) :
    ∀ (n x wt re st : Nat) (a5 a6 : Nat → Int32), x ≤ 200 → zh_R 72 a5 re → zh_R wt a6 st → wt ≤ 40 → zv_98 k w r (c + sz) n x wt re st = true → wX_markReached_98 post J x1 (nI c) n (nI x) ft (nI wt) fb a1 a2 a3 a4 a5 a6 a7 a8 := by
  intro n
  induction n with
  | zero => intro x wt re st a5 a6 _ _ _ _ h; exact Bool.noConfusion (show false = true from h)
  | succ n ih =>
    intro x wt re st a5 a6 hx h5 h6 hw h
    rw [zv_98_s] at h
    rw [wX_markReached_98]
    dsimp only
    rw [nI_clamp (show c < 2 ^ 31 by omega), nI_clamp (show x < 2 ^ 31 by omega), hz]
    refine ⟨pk_in c 72 hc, ?_⟩
    rcases zh_lec h with ⟨e, h⟩ | ⟨e, h⟩
    · obtain ⟨hx2, h⟩ := zh_ltT h
      refine pk_lt (c + sz) x (fun z => absurd z (by omega)) (fun _ => ⟨pk_in x 72 hx2, ?_⟩) (nI_add c sz)
      rw [h2 x hx2]
      rcases zh_eqc h with ⟨e0, h⟩ | ⟨e0, h⟩
      · exact br_t (zh_i0 e0) (nm_r (nI_1 x) (ih _ _ _ _ _ _ (by omega) h5 h6 hw h))
      · exact br_f (zh_n0 e0) ⟨pk_in x 72 hx2, zh_reach h (h1 x hx2) h5 h6 hw (fun wt' re' st' b5 b6 g5 g6 gw h => nm_r (nI_1 x) (ih _ _ _ _ _ _ (by omega) g5 g6 gw h))⟩
    · exact pk_lt (c + sz) x (fun _ => nm_e (HJ _ _ _ _ _ h5 h6 hw h)) (fun z => absurd z (by omega)) (nI_add c sz)
theorem zh_61 {v ft fb : Int32} {post : St2 → Prop} {k : Nat → Bool} {w r : Nat} {a1 a2 a3 a4 a7 a8 : Nat → Int32} (h1 : zh_V v 72 a1 w) (h2 : zh_R 72 a2 r)
    (HP : ∀ (fw : Int32) (re : Nat) (a5 a6 : Nat → Int32), zh_R 72 a5 re → k re = true → post (ft, fw, fb, a1, a2, a3, a4, a5, a6, a7, a8)) :
    ∀ (n s wt re st : Nat) (a5 a6 : Nat → Int32), s ≤ 37 → zh_R 72 a5 re → zh_R wt a6 st → wt ≤ 40 → zv_61 k w r n s wt re st = true → wX_markReached_61 post n (nI s) ft (nI wt) fb a1 a2 a3 a4 a5 a6 a7 a8 := by
  intro n
  induction n with
  | zero => intro s wt re st a5 a6 _ _ _ _ h; exact Bool.noConfusion (show false = true from h)
  | succ n ih =>
    intro s wt re st a5 a6 hs h5 h6 hw h
    rw [zv_61_s] at h
    rw [wX_markReached_61]
    dsimp only
    rcases zh_lec h with ⟨e, h⟩ | ⟨e, h⟩
    · exact pk_le 37 s (fun _ => HP _ _ _ _ h5 h) (fun z => absurd z (by omega))
    · refine pk_le 37 s (fun z => absurd z (by omega)) (fun _ => ?_)
      rcases zh_lec h with ⟨e2, h⟩ | ⟨e2, h⟩
      · exact pk_le wt 0 (fun _ => HP _ _ _ _ h5 h) (fun z => absurd z (by omega))
      · refine pk_le wt 0 (fun z => absurd z (by omega)) (fun _ => nm_r (zh_pr e2) ?_)
        obtain ⟨hc, h⟩ := zh_ltT h
        obtain ⟨hz, h⟩ := zh_ltT h
        refine ⟨pk_in (wt - 1) 40 (by omega), nm_r (show a6 (nI (wt - 1)).toNatClampNeg = nI (zh_g st (wt - 1)) from by rw [nI_clamp (by omega)]; exact h6 _ (by omega)) (nm_r (nI_1 _) ⟨80, ?_⟩)⟩
        exact zh_98 h1 h2 hc (by rw [h1 _ hc, zh_dl (by omega)]) hz (fun wt' re' st' b5 b6 g5 g6 gw h => by rw [nI_1 s]; exact ih _ _ _ _ _ _ (by omega) g5 g6 gw h) 80 _ _ _ _ _ _ (by omega) h5 (zh_Rm h6 (by omega)) (by omega) h
theorem zh_28 {v ft fb : Int32} {post : St2 → Prop} {k : Nat → Bool} {w r h hr : Nat} {a1 a2 a3 a4 a7 a8 : Nat → Int32} (h1 : zh_V v 72 a1 w) (h2 : zh_R 72 a2 r) (h3 : zh_V v 6 a3 h) (h4 : zh_R 6 a4 hr)
    (HP : ∀ (fw : Int32) (re : Nat) (a5 a6 : Nat → Int32), zh_R 72 a5 re → k re = true → post (ft, fw, fb, a1, a2, a3, a4, a5, a6, a7, a8)) :
    ∀ (n x wt re st : Nat) (a5 a6 : Nat → Int32), x ≤ 6 → zh_R 72 a5 re → zh_R wt a6 st → wt ≤ 40 → zv_28 k w r h hr n x wt re st = true → wX_markReached_28 post n (nI x) ft (nI wt) fb a1 a2 a3 a4 a5 a6 a7 a8 := by
  intro n
  induction n with
  | zero => intro x wt re st a5 a6 _ _ _ _ h; exact Bool.noConfusion (show false = true from h)
  | succ n ih =>
    intro x wt re st a5 a6 hx h5 h6 hw h
    rw [zv_28_s] at h
    rw [wX_markReached_28]
    dsimp only
    rcases zh_lec h with ⟨e, h⟩ | ⟨e, h⟩
    · exact pk_le 6 x (fun _ => ⟨40, zh_61 h1 h2 HP 40 0 _ _ _ _ _ (by omega) h5 h6 hw h⟩) (fun z => absurd z (by omega))
    · refine pk_le 6 x (fun z => absurd z (by omega)) (fun _ => ⟨pk_in x 6 e, ?_⟩)
      rw [nI_clamp (show x < 2 ^ 31 by omega), h4 x e]
      rcases zh_eqc h with ⟨e0, h⟩ | ⟨e0, h⟩
      · exact br_t (zh_i0 e0) (nm_r (nI_1 x) (ih _ _ _ _ _ _ (by omega) h5 h6 hw h))
      · exact br_f (zh_n0 e0) ⟨pk_in x 6 e, zh_reach h (h3 x e) h5 h6 hw (fun wt' re' st' b5 b6 g5 g6 gw h => nm_r (nI_1 x) (ih _ _ _ _ _ _ (by omega) g5 g6 gw h))⟩
theorem zh_mark {v ft fw fb : Int32} {post : St2 → Prop} {k : Nat → Bool} {w r h hr : Nat} {a1 a2 a3 a4 a5 a6 a7 a8 : Nat → Int32} (h1 : zh_V v 72 a1 w) (h2 : zh_R 72 a2 r) (h3 : zh_V v 6 a3 h) (h4 : zh_R 6 a4 hr)
    (hh : zv_28 k w r h hr 9 0 0 0 0 = true)
    (HP : ∀ (fw : Int32) (re : Nat) (a5 a6 : Nat → Int32), zh_R 72 a5 re → k re = true → post (ft, fw, fb, a1, a2, a3, a4, a5, a6, a7, a8)) : wpX_markReached post (ft, fw, fb, a1, a2, a3, a4, a5, a6, a7, a8) := by
  refine pk_loop (fun n i s => wX_markReached_2 post ft fw fb n (nI i) a1 a2 a3 a4 s a6 a7 a8) (fun i s => ∀ j, j < i → s j = 0) 72 0 a5 (by omega) (fun j hj => absurd hj (by omega)) ?_ ?_
  · intro n s hs
    refine pk_le 72 72 (fun _ => ⟨9, ?_⟩) (fun z => absurd z (by omega))
    exact zh_28 h1 h2 h3 h4 HP 9 0 0 0 0 _ _ (by omega) (fun j hj => by rw [hs j hj, zh_g0]; rfl) (fun j hj => absurd hj (by omega)) (by omega) hh
  · intro n i s hi hs hw
    refine pk_le 72 i (fun z => absurd z (by omega)) (fun _ => ⟨pk_in i 72 hi, nm_r (by rw [nI_clamp (show i < 2 ^ 31 by omega)]) (nm_r (nI_1 i) (hw _ ?_))⟩)
    intro j hj
    by_cases e : j = i
    · rw [e, pk_us]
    · rw [pk_un e]
      exact hs j (by omega)
end
section
/-! the walk of listBreaks, movedAddress, the registers, mendFields, slideDown: squeeze -/
theorem zv_14_s (k : Nat → Nat → Nat → Bool) (top w re n gap ing c s br ba bb : Nat) : zv_14 k top w re (n + 1) gap ing c s br ba bb = zh_c (Nat.ble 37 s) (k br ba bb) (zh_c (Nat.ble top c) (k br ba bb) (zh_c (Nat.ble 72 c) false (zh_c (Nat.ble 72 (zh_g w c)) false (zh_c (Nat.beq (zh_g re c) 0) (zv_14 k top w re n (gap + (zh_g w c + 1)) 1 (c + (zh_g w c + 1)) (s + 1) br ba bb) (zh_c (Nat.beq ing 0) (zv_14 k top w re n gap ing (c + (zh_g w c + 1)) (s + 1) br ba bb) (zh_c (Nat.ble 40 br) false (zh_c (Nat.ble 256 gap) false (zv_14 k top w re n gap 0 (c + (zh_g w c + 1)) (s + 1) (br + 1) (zh_s ba br c) (zh_s bb br gap))))))))) := by
  show zv_14b k top w re (zv_14 k top w re n) gap ing c s br ba bb = _
  unfold zv_14b
  simp only [zh_fe, zn_a, zn_s, zn_1, zn_d]
theorem zv_mv_s (k : Nat → Bool) (ba bb a n lo hi s : Nat) : zv_mv k ba bb a (n + 1) lo hi s = zh_c (Nat.ble 7 s) (zv_mf k bb a lo) (zh_c (Nat.ble hi lo) (zv_mf k bb a lo) (zh_c (Nat.ble (zh_g ba ((lo + hi) / 2)) a) (zv_mv k ba bb a n ((lo + hi) / 2 + 1) hi (s + 1)) (zv_mv k ba bb a n lo ((lo + hi) / 2) (s + 1)))) := by
  show zv_mvb k ba bb a (zv_mv k ba bb a n) lo hi s = _
  unfold zv_mvb
  simp only [zh_fe, zn_a, zn_s, zn_1, zn_d]
theorem zv_10_s (k : Nat → Bool) (hr br ba bb n x h : Nat) : zv_10 k hr br ba bb (n + 1) x h = zh_c (Nat.ble 6 x) (k h) (zh_c (Nat.beq (zh_g hr x) 0) (zv_10 k hr br ba bb n (x + 1) h) (zv_moved (fun d => zv_10 k hr br ba bb n (x + 1) (zh_s h x d)) br ba bb (zh_g h x))) := by
  show zv_10b k hr br ba bb (zv_10 k hr br ba bb n) x h = _
  unfold zv_10b
  simp only [zh_fe, zn_a, zn_s, zn_1, zn_d]
theorem zv_32_s (k : Nat → Bool) (r re br ba bb c lim n x w : Nat) : zv_32 k r re br ba bb c lim (n + 1) x w = zh_c (Nat.ble lim x) (k w) (zh_c (Nat.beq (zh_g re c) 0) (zv_32 k r re br ba bb c lim n (x + 1) w) (zh_c (Nat.ble 72 x) false (zh_c (Nat.beq (zh_g r x) 0) (zv_32 k r re br ba bb c lim n (x + 1) w) (zv_moved (fun d => zv_32 k r re br ba bb c lim n (x + 1) (zh_s w x d)) br ba bb (zh_g w x))))) := by
  show zv_32b k r re br ba bb c lim (zv_32 k r re br ba bb c lim n) x w = _
  unfold zv_32b
  simp only [zh_fe, zn_a, zn_s, zn_1, zn_d]
theorem zv_4_s (k : Nat → Bool) (top r re br ba bb n c s w : Nat) : zv_4 k top r re br ba bb (n + 1) c s w = zh_c (Nat.ble 37 s) (k w) (zh_c (Nat.ble top c) (k w) (zh_c (Nat.ble 72 c) false (zh_c (Nat.ble 72 (zh_g w c)) false (zv_32 (fun w' => zv_4 k top r re br ba bb n (c + (zh_g w c + 1)) (s + 1) w') r re br ba bb c (c + (zh_g w c + 1)) 80 (c + 1) w)))) := by
  show zv_4b k top r re br ba bb (zv_4 k top r re br ba bb n) c s w = _
  unfold zv_4b
  simp only [zh_fe, zn_a, zn_s, zn_1, zn_d]
theorem zv_46_s (k : Nat → Nat → Bool) (to c size n x w r : Nat) : zv_46 k to c size (n + 1) x w r = zh_c (Nat.ble size x) (k w r) (zh_c (Nat.ble 72 (c + x)) false (zh_c (Nat.ble 72 (to + x)) false (zh_c (Nat.ble (zh_g r (c + x)) 1) (zv_46 k to c size n (x + 1) (zh_s w (to + x) (zh_g w (c + x))) (zh_s r (to + x) (zh_g r (c + x)))) false))) := by
  show zv_46b k to c size (zv_46 k to c size n) x w r = _
  unfold zv_46b
  simp only [zh_fe, zn_a, zn_s, zn_1, zn_d]
theorem zv_12_s (k : Nat → Nat → Nat → Bool) (fin re n to c s w r : Nat) : zv_12 k fin re (n + 1) to c s w r = zh_c (Nat.ble 37 s) (zh_c (Nat.ble to 72) (k to w r) false) (zh_c (Nat.ble fin c) (zh_c (Nat.ble to 72) (k to w r) false) (zh_c (Nat.ble 72 c) false (zh_c (Nat.ble 72 (zh_g w c)) false (zh_c (Nat.beq (zh_g re c) 0) (zv_12 k fin re n to (c + (zh_g w c + 1)) (s + 1) w r) (zv_46 (fun w' r' => zv_12 k fin re n (to + (zh_g w c + 1)) (c + (zh_g w c + 1)) (s + 1) w' r') to c (zh_g w c + 1) 80 0 w r))))) := by
  show zv_12b k fin re (zv_12 k fin re n) to c s w r = _
  unfold zv_12b
  simp only [zh_fe, zn_a, zn_s, zn_1, zn_d]
theorem zh_sz {v : Int32} {a1 : Nat → Int32} {w c : Nat} (h1 : zh_V v 72 a1 w) (hc : c < 72) (hz : zh_g w c < 72) : a1 (nI c).toNatClampNeg + 1 = nI (zh_g w c + 1) := by
  rw [nI_clamp (by omega), h1 c hc, zh_dl (by omega), nI_1]
theorem zh_14 {v fw : Int32} {post : St2 → Prop} {k : Nat → Nat → Nat → Bool} {top w re : Nat} {a1 a2 a3 a4 a5 a6 : Nat → Int32} (h1 : zh_V v 72 a1 w) (h5 : zh_R 72 a5 re) (ht : top ≤ 72)
    (HP : ∀ (br ba bb : Nat) (a7 a8 : Nat → Int32), br ≤ 40 → zh_R br a7 ba → zh_R br a8 bb → k br ba bb = true → post (nI top, fw, nI br, a1, a2, a3, a4, a5, a6, a7, a8)) :
    ∀ (n gap ing c s br ba bb : Nat) (a7 a8 : Nat → Int32), ing ≤ 1 → c ≤ 200 → s ≤ 37 → br ≤ 40 → zh_R br a7 ba → zh_R br a8 bb → zv_14 k top w re n gap ing c s br ba bb = true → wX_listBreaks_14 post (nI top) fw n (nI gap) (nI ing) (nI c) (nI s) (nI br) a1 a2 a3 a4 a5 a6 a7 a8 := by
  intro n
  induction n with
  | zero => intro gap ing c s br ba bb a7 a8 _ _ _ _ _ _ h; exact Bool.noConfusion (show false = true from h)
  | succ n ih =>
    intro gap ing c s br ba bb a7 a8 hi hc hs hb h7 h8 h
    rw [zv_14_s] at h
    rw [wX_listBreaks_14]
    dsimp only
    rcases zh_lec h with ⟨e, h⟩ | ⟨e, h⟩
    · exact pk_le 37 s (fun _ => HP _ _ _ _ _ hb h7 h8 h) (fun z => absurd z (by omega))
    · refine pk_le 37 s (fun z => absurd z (by omega)) (fun _ => ?_)
      rcases zh_lec h with ⟨e2, h⟩ | ⟨e2, h⟩
      · exact pk_le top c (fun _ => HP _ _ _ _ _ hb h7 h8 h) (fun z => absurd z (by omega))
      · refine pk_le top c (fun z => absurd z (by omega)) (fun _ => ?_)
        obtain ⟨hc2, h⟩ := zh_ltT h
        obtain ⟨hz, h⟩ := zh_ltT h
        refine ⟨pk_in c 72 hc2, nm_r (zh_sz h1 hc2 hz) ⟨pk_in c 72 hc2, ?_⟩⟩
        rw [nI_clamp (show c < 2 ^ 31 by omega), h5 c hc2]
        rcases zh_eqc h with ⟨e0, h⟩ | ⟨e0, h⟩
        · exact br_t (zh_i0 e0) (nm_r (nI_add _ _) (nm_r (nI_add _ _) (nm_r (nI_1 s) (ih _ 1 _ _ _ _ _ _ _ (by omega) (by omega) (by omega) hb h7 h8 h))))
        · refine br_f (zh_n0 e0) ?_
          rcases zh_eqc h with ⟨e3, h⟩ | ⟨e3, h⟩
          · exact pk_eq ing 0 (fun _ => nm_r (nI_add _ _) (nm_r (nI_1 s) (ih _ _ _ _ _ _ _ _ _ hi (by omega) (by omega) hb h7 h8 h))) (fun z => absurd e3 z)
          · obtain ⟨hb2, h⟩ := zh_ltT h
            obtain ⟨hg, h⟩ := zh_ltT h
            refine pk_eq ing 0 (fun z => absurd z e3) (fun _ => ⟨pk_in br 40 hb2, nm_r (by rw [nI_clamp (show br < 2 ^ 31 by omega)]) ⟨pk_in br 40 hb2, nm_r (by rw [nI_clamp (show br < 2 ^ 31 by omega)]) (nm_r (nI_1 br) (nm_r (nI_add _ _) (nm_r (nI_1 s) ?_)))⟩⟩)
            exact ih _ 0 _ _ _ _ _ _ _ (by omega) (by omega) (by omega) (by omega) (zh_Rp h7 rfl (by omega)) (zh_Rp h8 rfl hg) h
theorem zh_mf {post : Int32 → Prop} {k : Nat → Bool} {a br bb lo : Nat} {ft fw fb : Int32} {a1 a2 a3 a4 a5 a6 a7 a8 : Nat → Int32} (ha : a < 72) (h8 : zh_R br a8 bb) (hb : br ≤ 40) (hl : lo ≤ br) (HP : ∀ d : Nat, d < 72 → k d = true → post (nI d)) (h : zv_mf k bb a lo = true) : wX_movedAddress_57 post (nI a) (nI lo) ft fw fb a1 a2 a3 a4 a5 a6 a7 a8 := by
  unfold zv_mf at h
  unfold wX_movedAddress_57
  rcases zh_eqc h with ⟨e, h⟩ | ⟨e, h⟩
  · exact pk_eq lo 0 (fun _ => HP a ha h) (fun z => absurd e z)
  · simp only [zh_fe, zn_s] at h
    obtain ⟨hd, h⟩ := zh_leT h
    refine pk_eq lo 0 (fun z => absurd z e) (fun _ => ?_)
    rw [zh_pr (show 0 < lo by omega), nI_clamp (show lo - 1 < 2 ^ 31 by omega), h8 (lo - 1) (by omega), pk_sub hd]
    exact ⟨pk_in (lo - 1) 40 (by omega), HP _ (by omega) h⟩
theorem zh_mv {post : Int32 → Prop} {k : Nat → Bool} {a br ba bb : Nat} {ft fw fb : Int32} {a1 a2 a3 a4 a5 a6 a7 a8 : Nat → Int32} (ha : a < 72) (h7 : zh_R br a7 ba) (h8 : zh_R br a8 bb) (hb : br ≤ 40) (HP : ∀ d : Nat, d < 72 → k d = true → post (nI d)) :
    ∀ n lo hi s : Nat, lo ≤ br → hi ≤ br → s ≤ 7 → zv_mv k ba bb a n lo hi s = true → wX_movedAddress_10 post (nI a) ft fw fb a1 a2 a3 a4 a5 a6 a7 a8 n (nI lo) (nI hi) (nI s) := by
  intro n
  induction n with
  | zero => intro lo hi s _ _ _ h; exact Bool.noConfusion (show false = true from h)
  | succ n ih =>
    intro lo hi s hl hh hs h
    rw [zv_mv_s] at h
    rw [wX_movedAddress_10]
    dsimp only
    rcases zh_lec h with ⟨e, h⟩ | ⟨e, h⟩
    · exact pk_le 7 s (fun _ => zh_mf ha h8 hb hl HP h) (fun z => absurd z (by omega))
    · refine pk_le 7 s (fun z => absurd z (by omega)) (fun _ => ?_)
      rcases zh_lec h with ⟨e2, h⟩ | ⟨e2, h⟩
      · exact pk_le hi lo (fun _ => zh_mf ha h8 hb hl HP h) (fun z => absurd z (by omega))
      · refine pk_le hi lo (fun z => absurd z (by omega)) (fun _ => ⟨by decide, nm_r (show (nI lo + nI hi) / 2 = nI ((lo + hi) / 2) from by rw [nI_add]; exact pk_div (d := 2) (by omega) (by decide) (by decide)) ?_⟩)
        have hm : (lo + hi) / 2 < br := by omega
        refine ⟨pk_in ((lo + hi) / 2) 40 (by omega), ?_⟩
        rw [nI_clamp (show (lo + hi) / 2 < 2 ^ 31 by omega), h7 _ hm]
        have hg := zh_gl ba ((lo + hi) / 2)
        rcases zh_lec h with ⟨e3, h⟩ | ⟨e3, h⟩
        · exact pk_lt a (zh_g ba ((lo + hi) / 2)) (fun z => absurd z (by omega)) (fun _ => nm_r (nI_1 _) (nm_r (nI_1 s) (ih _ _ _ (by omega) hh (by omega) h)))
        · exact pk_lt a (zh_g ba ((lo + hi) / 2)) (fun _ => nm_r (nI_1 s) (ih _ _ _ hl (by omega) (by omega) h)) (fun z => absurd z (by omega))
theorem zh_moved {v p : Int32} {post : Int32 → Prop} {k : Nat → Bool} {a br ba bb : Nat} {ft fw : Int32} {a1 a2 a3 a4 a5 a6 a7 a8 : Nat → Int32} (h : zv_moved k br ba bb a = true) (hp : p = zh_d v a) (h7 : zh_R br a7 ba) (h8 : zh_R br a8 bb) (hb : br ≤ 40) (HP : ∀ d : Nat, d < 72 → k d = true → post (nI d)) :
    wpX_movedAddress post (ft, fw, nI br, a1, a2, a3, a4, a5, a6, a7, a8) p := by
  unfold zv_moved at h
  rw [zh_fe] at h
  obtain ⟨ha, h⟩ := zh_ltT h
  have hp : p = nI a := by rw [hp, zh_dl (by omega)]
  subst hp
  exact ⟨9, zh_mv ha h7 h8 hb HP 9 0 br 0 (by omega) (by omega) (by omega) h⟩
theorem zh_32 {v x2 ft fw : Int32} {post : St2 → Prop} {J : Int32 → Int32 → (Nat → Int32) → (Nat → Int32) → (Nat → Int32) → (Nat → Int32) → (Nat → Int32) → (Nat → Int32) → (Nat → Int32) → (Nat → Int32) → Prop} {k : Nat → Bool} {r re br ba bb c size : Nat} {a2 a3 a4 a5 a6 a7 a8 : Nat → Int32} (h2 : zh_R 72 a2 r) (h5 : zh_R 72 a5 re) (h7 : zh_R br a7 ba) (h8 : zh_R br a8 bb) (hb : br ≤ 40) (hc : c < 72) (hz : size ≤ 72)
    (HJ : ∀ (w : Nat) (a1 : Nat → Int32), zh_V v 72 a1 w → k w = true → J (nI (c + size)) (x2 + 1) a1 a2 a3 a4 a5 a6 a7 a8) :
    ∀ (n x w : Nat) (a1 : Nat → Int32), x ≤ 200 → zh_V v 72 a1 w → zv_32 k r re br ba bb c (c + size) n x w = true → wX_mendFields_32 post J (nI c) x2 (nI size) ft fw (nI br) n (nI x) a1 a2 a3 a4 a5 a6 a7 a8 := by
  intro n
  induction n with
  | zero => intro x w a1 _ _ h; exact Bool.noConfusion (show false = true from h)
  | succ n ih =>
    intro x w a1 hx h1 h
    rw [zv_32_s] at h
    rw [wX_mendFields_32]
    dsimp only
    rcases zh_lec h with ⟨e, h⟩ | ⟨e, h⟩
    · exact pk_le (c + size) x (fun _ => nm_r (nI_add _ _) (nm_e (HJ _ _ h1 h))) (fun z => absurd z (by omega)) (nI_add _ _)
    · refine pk_le (c + size) x (fun z => absurd z (by omega)) (fun _ => ⟨pk_in c 72 hc, ?_⟩) (nI_add _ _)
      rw [nI_clamp (show c < 2 ^ 31 by omega), h5 c hc]
      rcases zh_eqc h with ⟨e0, h⟩ | ⟨e0, h⟩
      · exact br_t (zh_i0 e0) (nm_r (nI_1 x) (ih _ _ _ (by omega) h1 h))
      · obtain ⟨hx2, h⟩ := zh_ltT h
        refine br_f (zh_n0 e0) ⟨pk_in x 72 hx2, ?_⟩
        rw [nI_clamp (show x < 2 ^ 31 by omega), h2 x hx2]
        rcases zh_eqc h with ⟨e3, h⟩ | ⟨e3, h⟩
        · exact br_t (zh_i0 e3) (nm_r (nI_1 x) (ih _ _ _ (by omega) h1 h))
        · exact br_f (zh_n0 e3) ⟨pk_in x 72 hx2, zh_moved h (h1 x hx2) h7 h8 hb (fun d hd h => ⟨pk_in x 72 hx2, nm_e (nm_r (nI_1 x) (ih _ _ _ (by omega) (zh_Vs h1 (zh_dl (by omega)).symm (by omega)) h))⟩)⟩
theorem zh_4 {v fw : Int32} {post : St2 → Prop} {k : Nat → Bool} {top r re br ba bb : Nat} {a2 a3 a4 a5 a6 a7 a8 : Nat → Int32} (ht : top ≤ 72) (h2 : zh_R 72 a2 r) (h5 : zh_R 72 a5 re) (h7 : zh_R br a7 ba) (h8 : zh_R br a8 bb) (hb : br ≤ 40)
    (HP : ∀ (w : Nat) (a1 : Nat → Int32), zh_V v 72 a1 w → k w = true → post (nI top, fw, nI br, a1, a2, a3, a4, a5, a6, a7, a8)) :
    ∀ (n c s w : Nat) (a1 : Nat → Int32), c ≤ 200 → s ≤ 37 → zh_V v 72 a1 w → zv_4 k top r re br ba bb n c s w = true → wX_mendFields_4 post (nI top) fw (nI br) n (nI c) (nI s) a1 a2 a3 a4 a5 a6 a7 a8 := by
  intro n
  induction n with
  | zero => intro c s w a1 _ _ _ h; exact Bool.noConfusion (show false = true from h)
  | succ n ih =>
    intro c s w a1 hc hs h1 h
    rw [zv_4_s] at h
    rw [wX_mendFields_4]
    dsimp only
    rcases zh_lec h with ⟨e, h⟩ | ⟨e, h⟩
    · exact pk_le 37 s (fun _ => HP _ _ h1 h) (fun z => absurd z (by omega))
    · refine pk_le 37 s (fun z => absurd z (by omega)) (fun _ => ?_)
      rcases zh_lec h with ⟨e2, h⟩ | ⟨e2, h⟩
      · exact pk_le top c (fun _ => HP _ _ h1 h) (fun z => absurd z (by omega))
      · obtain ⟨hc2, h⟩ := zh_ltT h
        obtain ⟨hz, h⟩ := zh_ltT h
        refine pk_le top c (fun z => absurd z (by omega)) (fun _ => ⟨pk_in c 72 hc2, nm_r (zh_sz h1 hc2 hz) (nm_r (nI_1 c) ⟨80, ?_⟩)⟩)
        exact zh_32 h2 h5 h7 h8 hb hc2 (by omega) (fun w' b1 g1 h => by rw [nI_1 s]; exact ih _ _ _ _ (by omega) (by omega) g1 h) 80 _ _ _ (by omega) h1 h
theorem zh_46 {v x3 x4 ft fw fb : Int32} {post : St2 → Prop} {J : Int32 → Int32 → Int32 → (Nat → Int32) → (Nat → Int32) → (Nat → Int32) → (Nat → Int32) → (Nat → Int32) → (Nat → Int32) → (Nat → Int32) → (Nat → Int32) → Prop} {k : Nat → Nat → Bool} {to c size : Nat} {a3 a4 a5 a6 a7 a8 : Nat → Int32} (hc : c < 72) (hz : size ≤ 72)
    (HJ : ∀ (w r : Nat) (a1 a2 : Nat → Int32), zh_V v 72 a1 w → zh_R 72 a2 r → k w r = true → J (nI (to + size)) (nI (c + size)) (x4 + 1) a1 a2 a3 a4 a5 a6 a7 a8) :
    ∀ (n x w r : Nat) (a1 a2 : Nat → Int32), x ≤ 200 → zh_V v 72 a1 w → zh_R 72 a2 r → zv_46 k to c size n x w r = true → wX_slideDown_46 post J (nI to) (nI c) x3 x4 (nI size) ft fw fb n (nI x) a1 a2 a3 a4 a5 a6 a7 a8 := by
  intro n
  induction n with
  | zero => intro x w r a1 a2 _ _ _ h; exact Bool.noConfusion (show false = true from h)
  | succ n ih =>
    intro x w r a1 a2 hx h1 h2 h
    rw [zv_46_s] at h
    rw [wX_slideDown_46]
    dsimp only
    rcases zh_lec h with ⟨e, h⟩ | ⟨e, h⟩
    · exact pk_le size x (fun _ => nm_r (nI_add _ _) (nm_r (nI_add _ _) (nm_e (HJ _ _ _ _ h1 h2 h)))) (fun z => absurd z (by omega))
    · obtain ⟨hi, h⟩ := zh_ltT h
      obtain ⟨hj, h⟩ := zh_ltT h
      obtain ⟨hb, h⟩ := zh_leT h
      refine pk_le size x (fun z => absurd z (by omega)) (fun _ => ?_)
      rw [nI_add c x, nI_add to x, nI_clamp (show c + x < 2 ^ 31 by omega), nI_clamp (show to + x < 2 ^ 31 by omega), h2 _ hi, zh_bo _ (by omega)]
      exact ⟨pk_in (c + x) 72 hi, pk_in (to + x) 72 hj, nm_e ⟨pk_in (c + x) 72 hi, pk_in (to + x) 72 hj, nm_e (nm_r (nI_1 x) (ih _ _ _ _ _ (by omega) (zh_Vs h1 (h1 _ hi) (zh_gl _ _)) (zh_Rs h2 rfl (by omega)) h))⟩⟩
theorem zh_12 {v fw fb : Int32} {post : St2 → Prop} {k : Nat → Nat → Nat → Bool} {fin re : Nat} {ft : Int32} {a3 a4 a5 a6 a7 a8 : Nat → Int32} (hf : fin ≤ 72) (h5 : zh_R 72 a5 re)
    (HP : ∀ (to w r : Nat) (a1 a2 : Nat → Int32), to ≤ 72 → zh_V v 72 a1 w → zh_R 72 a2 r → k to w r = true → post (nI to, fw, fb, a1, a2, a3, a4, a5, a6, a7, a8)) :
    ∀ (n to c s w r : Nat) (a1 a2 : Nat → Int32), c ≤ 200 → s ≤ 37 → zh_V v 72 a1 w → zh_R 72 a2 r → zv_12 k fin re n to c s w r = true → wX_slideDown_12 post (nI fin) ft fw fb n (nI to) (nI c) (nI s) a1 a2 a3 a4 a5 a6 a7 a8 := by
  intro n
  induction n with
  | zero => intro to c s w r a1 a2 _ _ _ _ h; exact Bool.noConfusion (show false = true from h)
  | succ n ih =>
    intro to c s w r a1 a2 hc hs h1 h2 h
    rw [zv_12_s] at h
    rw [wX_slideDown_12]
    dsimp only
    rcases zh_lec h with ⟨e, h⟩ | ⟨e, h⟩
    · obtain ⟨ht, h⟩ := zh_leT h
      exact pk_le 37 s (fun _ => HP _ _ _ _ _ ht h1 h2 h) (fun z => absurd z (by omega))
    · refine pk_le 37 s (fun z => absurd z (by omega)) (fun _ => ?_)
      rcases zh_lec h with ⟨e2, h⟩ | ⟨e2, h⟩
      · obtain ⟨ht, h⟩ := zh_leT h
        exact pk_le fin c (fun _ => HP _ _ _ _ _ ht h1 h2 h) (fun z => absurd z (by omega))
      · obtain ⟨hc2, h⟩ := zh_ltT h
        obtain ⟨hz, h⟩ := zh_ltT h
        refine pk_le fin c (fun z => absurd z (by omega)) (fun _ => ⟨pk_in c 72 hc2, nm_r (zh_sz h1 hc2 hz) ⟨pk_in c 72 hc2, ?_⟩⟩)
        rw [nI_clamp (show c < 2 ^ 31 by omega), h5 c hc2]
        rcases zh_eqc h with ⟨e0, h⟩ | ⟨e0, h⟩
        · exact br_t (zh_i0 e0) (nm_r (nI_add _ _) (nm_r (nI_1 s) (ih _ _ _ _ _ _ _ (by omega) (by omega) h1 h2 h)))
        · refine br_f (zh_n0 e0) ⟨80, ?_⟩
          exact zh_46 hc2 (by omega) (fun w' r' b1 b2 g1 g2 h => by rw [nI_1 s]; exact ih _ _ _ _ _ _ _ (by omega) (by omega) g1 g2 h) 80 0 _ _ _ _ (by omega) h1 h2 h
/-- a state of the class and its packed picture -/
def zh_S (v : Int32) (top w r h hr : Nat) (a1 a2 a3 a4 : Nat → Int32) : Prop := top ≤ 72 ∧ zh_V v 72 a1 w ∧ zh_R 72 a2 r ∧ zh_V v 6 a3 h ∧ zh_R 6 a4 hr
theorem zh_10 {v fw : Int32} {post : St2 → Prop} {k : Nat → Bool} {top hr br ba bb : Nat} {a1 a2 a4 a5 a6 a7 a8 : Nat → Int32} (h4 : zh_R 6 a4 hr) (h7 : zh_R br a7 ba) (h8 : zh_R br a8 bb) (hb : br ≤ 40)
    (HP : ∀ (h : Nat) (a3 : Nat → Int32), zh_V v 6 a3 h → k h = true → wpX_mendFields (fun u => wpX_slideDown post u) (nI top, fw, nI br, a1, a2, a3, a4, a5, a6, a7, a8)) :
    ∀ (n x h : Nat) (a3 : Nat → Int32), x ≤ 6 → zh_V v 6 a3 h → zv_10 k hr br ba bb n x h = true → wX_squeeze_10 post (nI top) fw (nI br) n (nI x) a1 a2 a3 a4 a5 a6 a7 a8 := by
  intro n
  induction n with
  | zero => intro x h a3 _ _ hh; exact Bool.noConfusion (show false = true from hh)
  | succ n ih =>
    intro x h a3 hx h3 hh
    rw [zv_10_s] at hh
    rw [wX_squeeze_10]
    dsimp only
    rcases zh_lec hh with ⟨e, hh⟩ | ⟨e, hh⟩
    · exact pk_le 6 x (fun _ => HP _ _ h3 hh) (fun z => absurd z (by omega))
    · refine pk_le 6 x (fun z => absurd z (by omega)) (fun _ => ⟨pk_in x 6 e, ?_⟩)
      rw [nI_clamp (show x < 2 ^ 31 by omega), h4 x e]
      rcases zh_eqc hh with ⟨e0, hh⟩ | ⟨e0, hh⟩
      · exact br_t (zh_i0 e0) (nm_r (nI_1 x) (ih _ _ _ (by omega) h3 hh))
      · exact br_f (zh_n0 e0) ⟨pk_in x 6 e, zh_moved hh (h3 x e) h7 h8 hb (fun d hd hh => ⟨pk_in x 6 e, nm_e (nm_r (nI_1 x) (ih _ _ _ (by omega) (zh_Vs h3 (zh_dl (by omega)).symm (by omega)) hh))⟩)⟩
theorem zh_sq {v fw fb : Int32} {post : St2 → Prop} {k : Nat → Nat → Nat → Nat → Bool} {top w r h hr : Nat} {a1 a2 a3 a4 a5 a6 a7 a8 : Nat → Int32} (hh : zv_sq k top w r h hr = true) (hS : zh_S v top w r h hr a1 a2 a3 a4)
    (H : ∀ (t' w' r' h' : Nat) (fw' fb' : Int32) (b1 b2 b3 b4 b5 b6 b7 b8 : Nat → Int32), zh_S v t' w' r' h' hr b1 b2 b3 b4 → k t' w' r' h' = true → post (nI t', fw', fb', b1, b2, b3, b4, b5, b6, b7, b8)) : wpX_squeeze post (nI top, fw, fb, a1, a2, a3, a4, a5, a6, a7, a8) := by
  obtain ⟨ht, h1, h2, h3, h4⟩ := hS
  unfold zv_sq at hh
  refine zh_mark h1 h2 h3 h4 hh (fun fw re b5 b6 g5 hh => ?_)
  refine ⟨40, zh_14 h1 g5 ht (fun br ba bb b7 b8 hb g7 g8 hh => ?_) 40 0 0 0 0 0 0 0 _ _ (by omega) (by omega) (by omega) (by omega) (fun j hj => absurd hj (by omega)) (fun j hj => absurd hj (by omega)) hh⟩
  refine ⟨9, zh_10 h4 g7 g8 hb (fun h' b3 g3 hh => ?_) 9 0 _ _ (by omega) h3 hh⟩
  refine ⟨40, zh_4 ht h2 g5 g7 g8 hb (fun w' b1 g1 hh => ?_) 40 0 0 _ _ (by omega) (by omega) h1 hh⟩
  refine ⟨40, zh_12 ht g5 (fun to w'' r' c1 c2 hto f1 f2 hh => ?_) 40 0 0 0 _ _ _ _ (by omega) (by omega) g1 h2 hh⟩
  exact H _ _ _ _ _ _ _ _ _ _ _ _ _ _ ⟨hto, f1, f2, g3, h4⟩ hh
end
section
/-! the walk of the other methods -/
theorem zh_reg {post : Int32 → Prop} {d : Nat} (hd : d < 6) (h : post 1) : wpX_isRegister post () (nI d) :=
  pk_lt d 0 (fun z => absurd z (by omega)) (fun _ => pk_lt 5 d (fun z => absurd z (by omega)) (fun _ => h))
theorem zv_77_s (k : Nat → Nat → Bool) (lim n x w r : Nat) : zv_77 k lim (n + 1) x w r = zh_c (Nat.ble x lim) (zv_77 k lim n (x + 1) (zh_s w x 0) (zh_s r x 0)) (k w r) := by
  show zv_77b k lim (zv_77 k lim n) x w r = _
  unfold zv_77b
  simp only [zh_fe, zn_a, zn_s, zn_1, zn_d]
theorem zh_77 {v fw fb ft : Int32} {post : Int32 → St2 → Prop} {k : Nat → Nat → Bool} {d m c : Nat} {a3 a4 a5 a6 a7 a8 : Nat → Int32} (hd : d < 6) (hl : c + m < 72)
    (HP : ∀ (w r : Nat) (a1 a2 : Nat → Int32), zh_V v 72 a1 w → zh_R 72 a2 r → k w r = true → post 0 (nI (c + m + 1), fw, fb, a1, a2, upd a3 d (nI c), upd a4 d 1, a5, a6, a7, a8)) :
    ∀ (n x w r : Nat) (a1 a2 : Nat → Int32), x ≤ 200 → zh_V v 72 a1 w → zh_R 72 a2 r → zv_77 k (c + m) n x w r = true → wX_make_77 post (nI d) (nI m) (nI c) ft fw fb n (nI x) a1 a2 a3 a4 a5 a6 a7 a8 := by
  intro n
  induction n with
  | zero => intro x w r a1 a2 _ _ _ h; exact Bool.noConfusion (show false = true from h)
  | succ n ih =>
    intro x w r a1 a2 hx h1 h2 h
    rw [zv_77_s] at h
    rw [wX_make_77]
    dsimp only
    rcases zh_lec h with ⟨e, h⟩ | ⟨e, h⟩
    · refine pk_lt (c + m) x (fun z => absurd z (by omega)) (fun _ => ?_) (nI_add _ _)
      rw [nI_clamp (show x < 2 ^ 31 by omega)]
      exact ⟨pk_in x 72 (by omega), nm_e ⟨pk_in x 72 (by omega), nm_e (nm_r (nI_1 x) (ih _ _ _ _ _ (by omega) (zh_Vs h1 (zh_dl (c := 0) (by omega)).symm (by omega)) (zh_Rs (c := 0) h2 rfl (by omega)) h))⟩⟩
    · refine pk_lt (c + m) x (fun _ => nm_r (show nI c + nI m + 1 = nI (c + m + 1) from by rw [nI_add, nI_1]) ?_) (fun z => absurd z (by omega)) (nI_add _ _)
      rw [nI_clamp (show d < 2 ^ 31 by omega)]
      exact ⟨pk_in d 6 hd, nm_e ⟨pk_in d 6 hd, nm_e (HP _ _ _ _ h1 h2 h)⟩⟩
theorem zh_mk2 {v fw fb : Int32} {post : Int32 → St2 → Prop} {k : Nat → Nat → Nat → Nat → Nat → Bool} {d m top w r h hr : Nat} {a1 a2 a3 a4 a5 a6 a7 a8 : Nat → Int32} (hh : zv_mk2 k d m top w r h hr = true) (hd : d < 6) (hm : m ≤ 6) (hS : zh_S v top w r h hr a1 a2 a3 a4)
    (H : ∀ (t' w' r' h' hr' : Nat) (fw' fb' : Int32) (b1 b2 b3 b4 b5 b6 b7 b8 : Nat → Int32), zh_S v t' w' r' h' hr' b1 b2 b3 b4 → k t' w' r' h' hr' = true → post 0 (nI t', fw', fb', b1, b2, b3, b4, b5, b6, b7, b8)) : wX_make_37 post (nI d) (nI m) (nI top) fw fb a1 a2 a3 a4 a5 a6 a7 a8 := by
  obtain ⟨ht, h1, h2, h3, h4⟩ := hS
  unfold zv_mk2 at hh
  simp only [zh_fe, zn_a, zn_1, zn_s] at hh
  obtain ⟨hc, hh⟩ := zh_leT hh
  unfold wX_make_37
  refine pk_le (m + 1) (72 - top) (fun _ => ?_) (fun z => absurd z (by omega)) (nI_1 m) (pk_sub (a := 72) (b := top) ht)
  rw [nI_clamp (show top < 2 ^ 31 by omega)]
  refine ⟨pk_in top 72 (by omega), nm_e ⟨pk_in top 72 (by omega), nm_e (nm_r (nI_1 top) ⟨80, ?_⟩)⟩⟩
  exact zh_77 hd (by omega) (fun w' r' b1 b2 g1 g2 hh => H _ _ _ _ _ _ _ _ _ _ _ _ _ _ _ ⟨by omega, g1, g2, zh_Vs h3 (zh_dl (by omega)).symm (by omega), zh_Rs (c := 1) h4 rfl (by omega)⟩ hh) 80 _ _ _ _ _ (by omega) (zh_Vs h1 (zh_dl (by omega)).symm (by omega)) (zh_Rs (c := 0) h2 rfl (by omega)) hh
theorem zh_make {v fw fb : Int32} {post : Int32 → St2 → Prop} {k : Nat → Nat → Nat → Nat → Nat → Bool} {d m top w r h hr : Nat} {a1 a2 a3 a4 a5 a6 a7 a8 : Nat → Int32} (hh : zv_mk k d m top w r h hr = true) (hd : d < 6) (hm0 : 1 ≤ m) (hm : m ≤ 6) (hS : zh_S v top w r h hr a1 a2 a3 a4)
    (H : ∀ (t' w' r' h' hr' : Nat) (fw' fb' : Int32) (b1 b2 b3 b4 b5 b6 b7 b8 : Nat → Int32), zh_S v t' w' r' h' hr' b1 b2 b3 b4 → k t' w' r' h' hr' = true → post 0 (nI t', fw', fb', b1, b2, b3, b4, b5, b6, b7, b8)) : wpX_make post (nI top, fw, fb, a1, a2, a3, a4, a5, a6, a7, a8) (nI d) (nI m) := by
  have ht := hS.1
  unfold zv_mk at hh
  rw [zn_s, zn_1] at hh
  unfold wpX_make
  dsimp only
  refine zh_reg hd (br_f (by decide) ?_)
  refine pk_lt m 1 (fun z => absurd z (by omega)) (fun _ => pk_le m 6 (fun _ => ?_) (fun z => absurd z (by omega)))
  rcases zh_lec hh with ⟨e, hh⟩ | ⟨e, hh⟩
  · exact pk_le (m + 1) (72 - top) (fun _ => zh_mk2 hh hd hm hS H) (fun z => absurd z (by omega)) (nI_1 m) (pk_sub (a := 72) (b := top) ht)
  · exact pk_le (m + 1) (72 - top) (fun z => absurd z (by omega)) (fun _ => zh_sq hh hS (fun t' w' r' h' fw' fb' b1 b2 b3 b4 b5 b6 b7 b8 gS hh => zh_mk2 hh hd hm gS H)) (nI_1 m) (pk_sub (a := 72) (b := top) ht)
theorem zh_num {v p fw fb : Int32} {post : Int32 → St2 → Prop} {k : Nat → Nat → Bool} {d c top w r h hr : Nat} {a1 a2 a3 a4 a5 a6 a7 a8 : Nat → Int32} (hh : zv_nm k d c h hr = true) (hd : d < 6) (hc : c < 256) (hp : p = zh_d v c) (hS : zh_S v top w r h hr a1 a2 a3 a4)
    (H : ∀ (h' hr' : Nat) (b3 b4 : Nat → Int32), zh_S v top w r h' hr' a1 a2 b3 b4 → k h' hr' = true → post 0 (nI top, fw, fb, a1, a2, b3, b4, a5, a6, a7, a8)) : wpX_number post (nI top, fw, fb, a1, a2, a3, a4, a5, a6, a7, a8) (nI d) p := by
  obtain ⟨ht, h1, h2, h3, h4⟩ := hS
  unfold zv_nm at hh
  simp only [zh_fe] at hh
  unfold wpX_number
  dsimp only
  refine zh_reg hd (br_f (by decide) ?_)
  rw [nI_clamp (show d < 2 ^ 31 by omega)]
  exact ⟨pk_in d 6 hd, nm_e ⟨pk_in d 6 hd, nm_e (H _ _ _ _ ⟨ht, h1, h2, zh_Vs h3 hp hc, zh_Rs (c := 0) h4 rfl (by omega)⟩ hh)⟩⟩
theorem zv_at_e {k : Nat → Bool} {t fl w h hr : Nat} (hh : zv_at k t fl w h hr = true) : zh_g hr t ≠ 0 ∧ zh_g h t < 72 ∧ zh_g w (zh_g h t) < 72 ∧ fl < zh_g w (zh_g h t) ∧ zh_g h t + 1 + fl < 72 ∧ k (zh_g h t + 1 + fl) = true := by
  unfold zv_at at hh
  simp only [zh_fe, zn_a, zn_1] at hh
  obtain ⟨h1, hh⟩ := zh_neT hh
  obtain ⟨h2, hh⟩ := zh_ltT hh
  obtain ⟨h3, hh⟩ := zh_ltT hh
  obtain ⟨h4, hh⟩ := zh_ltT hh
  obtain ⟨h5, hh⟩ := zh_ltT hh
  exact ⟨h1, h2, h3, h4, h5, hh⟩
theorem zh_has {v fw fb : Int32} {post : Int32 → Prop} {t fl top w r h hr : Nat} {a1 a2 a3 a4 a5 a6 a7 a8 : Nat → Int32} (ht : t < 6) (hS : zh_S v top w r h hr a1 a2 a3 a4) (e1 : zh_g hr t ≠ 0) (e2 : zh_g h t < 72) (e3 : zh_g w (zh_g h t) < 72) (e4 : fl < zh_g w (zh_g h t)) (H : post 1) :
    wpX_hasField post (nI top, fw, fb, a1, a2, a3, a4, a5, a6, a7, a8) (nI t) (nI fl) := by
  obtain ⟨_, h1, h2, h3, h4⟩ := hS
  unfold wpX_hasField
  dsimp only
  rw [nI_clamp (show t < 2 ^ 31 by omega), h4 t ht, h3 t ht, zh_dl (show zh_g h t < 255 by omega), nI_clamp (show zh_g h t < 2 ^ 31 by omega), h1 _ e2, zh_dl (show zh_g w (zh_g h t) < 255 by omega)]
  exact ⟨pk_in t 6 ht, br_f (zh_n0 e1) (pk_lt fl 0 (fun z => absurd z (by omega)) (fun _ => ⟨pk_in t 6 ht, pk_in _ 72 e2, pk_le (zh_g w (zh_g h t)) fl (fun z => absurd z (by omega)) (fun _ => H)⟩))⟩
theorem zh_store {v fw fb : Int32} {post : Int32 → St2 → Prop} {k : Nat → Nat → Bool} {t fl s top w r h hr : Nat} {a1 a2 a3 a4 a5 a6 a7 a8 : Nat → Int32} (hh : zv_st k t fl s w r h hr = true) (ht : t < 6) (hs : s < 6) (hS : zh_S v top w r h hr a1 a2 a3 a4)
    (H : ∀ (w' r' : Nat) (b1 b2 : Nat → Int32), zh_S v top w' r' h hr b1 b2 a3 a4 → k w' r' = true → post 0 (nI top, fw, fb, b1, b2, a3, a4, a5, a6, a7, a8)) : wpX_store post (nI top, fw, fb, a1, a2, a3, a4, a5, a6, a7, a8) (nI t) (nI fl) (nI s) := by
  obtain ⟨e1, e2, e3, e4, e5, hh⟩ := zv_at_e hh
  obtain ⟨hb, hh⟩ := zh_leT hh
  simp only [zh_fe] at hh
  unfold wpX_store
  dsimp only
  refine zh_reg ht (br_f (by decide) (zh_reg hs (br_f (by decide) (zh_has ht hS e1 e2 e3 e4 (br_f (by decide) ?_)))))
  obtain ⟨htop, h1, h2, h3, h4⟩ := hS
  refine ⟨pk_in t 6 ht, nm_r (show a3 (nI t).toNatClampNeg + 1 + nI fl = nI (zh_g h t + 1 + fl) from by rw [nI_clamp (show t < 2 ^ 31 by omega), h3 t ht, zh_dl (show zh_g h t < 255 by omega), nI_1, nI_add]) ?_⟩
  rw [nI_clamp (show s < 2 ^ 31 by omega), nI_clamp (show zh_g h t + 1 + fl < 2 ^ 31 by omega), h4 s hs, zh_bo _ (by omega)]
  exact ⟨pk_in s 6 hs, pk_in _ 72 e5, nm_e ⟨pk_in s 6 hs, pk_in _ 72 e5, nm_e (H _ _ _ _ ⟨htop, zh_Vs h1 (h3 s hs) (zh_gl _ _), zh_Rs h2 rfl (zh_gl _ _), h3, h4⟩ hh)⟩⟩
theorem zh_load {v fw fb : Int32} {post : Int32 → St2 → Prop} {k : Nat → Nat → Bool} {d s fl top w r h hr : Nat} {a1 a2 a3 a4 a5 a6 a7 a8 : Nat → Int32} (hh : zv_ld k d s fl w r h hr = true) (hd : d < 6) (hs : s < 6) (hS : zh_S v top w r h hr a1 a2 a3 a4)
    (H : ∀ (h' hr' : Nat) (b3 b4 : Nat → Int32), zh_S v top w r h' hr' a1 a2 b3 b4 → k h' hr' = true → post 0 (nI top, fw, fb, a1, a2, b3, b4, a5, a6, a7, a8)) : wpX_load post (nI top, fw, fb, a1, a2, a3, a4, a5, a6, a7, a8) (nI d) (nI s) (nI fl) := by
  obtain ⟨e1, e2, e3, e4, e5, hh⟩ := zv_at_e hh
  obtain ⟨hb, hh⟩ := zh_leT hh
  simp only [zh_fe] at hh
  unfold wpX_load
  dsimp only
  refine zh_reg hd (br_f (by decide) (zh_reg hs (br_f (by decide) (zh_has hs hS e1 e2 e3 e4 (br_f (by decide) ?_)))))
  obtain ⟨htop, h1, h2, h3, h4⟩ := hS
  refine ⟨pk_in s 6 hs, nm_r (show a3 (nI s).toNatClampNeg + 1 + nI fl = nI (zh_g h s + 1 + fl) from by rw [nI_clamp (show s < 2 ^ 31 by omega), h3 s hs, zh_dl (show zh_g h s < 255 by omega), nI_1, nI_add]) ?_⟩
  rw [nI_clamp (show d < 2 ^ 31 by omega), nI_clamp (show zh_g h s + 1 + fl < 2 ^ 31 by omega), h2 _ e5, zh_bo _ (by omega)]
  exact ⟨pk_in _ 72 e5, pk_in d 6 hd, nm_e ⟨pk_in _ 72 e5, pk_in d 6 hd, nm_e (H _ _ _ _ ⟨htop, h1, h2, zh_Vs h3 (h1 _ e5) (zh_gl _ _), zh_Rs h4 rfl (zh_gl _ _)⟩ hh)⟩⟩
theorem zh_load3 {v p fw fb : Int32} {post : Int32 → St2 → Prop} {d s top w r h hr : Nat} {a1 a2 a3 a4 a5 a6 a7 a8 : Nat → Int32} (e : zh_g hr s = 0) (hd : d < 6) (hs : s < 6) (hS : zh_S v top w r h hr a1 a2 a3 a4)
    (H : post (-3) (nI top, fw, fb, a1, a2, a3, a4, a5, a6, a7, a8)) : wpX_load post (nI top, fw, fb, a1, a2, a3, a4, a5, a6, a7, a8) (nI d) (nI s) p := by
  obtain ⟨htop, h1, h2, h3, h4⟩ := hS
  unfold wpX_load
  dsimp only
  refine zh_reg hd (br_f (by decide) (zh_reg hs (br_f (by decide) ?_)))
  exact ⟨pk_in s 6 hs, br_t (by rw [nI_clamp (show s < 2 ^ 31 by omega), h4 s hs, e]; rfl) (br_t rfl H)⟩
theorem zh_fields {v fw fb : Int32} {post : Int32 → Prop} {x e top w r h hr : Nat} {a1 a2 a3 a4 a5 a6 a7 a8 : Nat → Int32} (hh : zv_fl w h hr x e = true) (hx : x < 6) (he : e < 255) (hS : zh_S v top w r h hr a1 a2 a3 a4) (H : post (nI e)) :
    wpX_fields post (nI top, fw, fb, a1, a2, a3, a4, a5, a6, a7, a8) (nI x) := by
  obtain ⟨htop, h1, h2, h3, h4⟩ := hS
  unfold zv_fl at hh
  unfold wpX_fields
  dsimp only
  refine zh_reg hx (br_f (by decide) ⟨pk_in x 6 hx, ?_⟩)
  rw [nI_clamp (show x < 2 ^ 31 by omega), h4 x hx]
  rcases zh_eqc hh with ⟨e0, hh⟩ | ⟨e0, hh⟩
  · have hz : e = 0 := Nat.eq_of_beq_eq_true hh
    subst hz
    exact br_t (zh_i0 e0) H
  · obtain ⟨h72, hh⟩ := zh_ltT hh
    have hz : zh_g w (zh_g h x) = e := Nat.eq_of_beq_eq_true hh
    refine br_f (zh_n0 e0) ⟨pk_in x 6 hx, ?_⟩
    rw [h3 x hx, zh_dl (show zh_g h x < 255 by omega), nI_clamp (show zh_g h x < 2 ^ 31 by omega), h1 _ h72, hz, zh_dl he]
    exact ⟨pk_in _ 72 h72, H⟩
theorem zh_value {v fw fb : Int32} {post : Int32 → Prop} {x c top w r h hr : Nat} {a1 a2 a3 a4 a5 a6 a7 a8 : Nat → Int32} (hx : x < 6) (hS : zh_S v top w r h hr a1 a2 a3 a4) (e0 : zh_g hr x = 0) (e1 : zh_g h x = c) (H : post (zh_d v c)) :
    wpX_value post (nI top, fw, fb, a1, a2, a3, a4, a5, a6, a7, a8) (nI x) := by
  obtain ⟨htop, h1, h2, h3, h4⟩ := hS
  unfold wpX_value
  dsimp only
  refine zh_reg hx (br_f (by decide) ⟨pk_in x 6 hx, ?_⟩)
  rw [nI_clamp (show x < 2 ^ 31 by omega), h4 x hx, h3 x hx, e1]
  exact br_t (zh_i0 e0) ⟨pk_in x 6 hx, H⟩
theorem zh_same1 {v fw fb : Int32} {post : Int32 → Prop} {x y top w r h hr : Nat} {a1 a2 a3 a4 a5 a6 a7 a8 : Nat → Int32} (hx : x < 6) (hy : y < 6) (hS : zh_S v top w r h hr a1 a2 a3 a4) (e0 : zh_g hr x = zh_g hr y) (e1 : zh_g h x = zh_g h y) (H : post 1) :
    wpX_same post (nI top, fw, fb, a1, a2, a3, a4, a5, a6, a7, a8) (nI x) (nI y) := by
  obtain ⟨htop, h1, h2, h3, h4⟩ := hS
  unfold wpX_same
  dsimp only
  refine zh_reg hx (br_f (by decide) (zh_reg hy (br_f (by decide) ?_)))
  rw [nI_clamp (show x < 2 ^ 31 by omega), nI_clamp (show y < 2 ^ 31 by omega), h4 x hx, h4 y hy, h3 x hx, h3 y hy, e0, e1]
  exact ⟨pk_in x 6 hx, pk_in y 6 hy, br_t rfl ⟨pk_in x 6 hx, pk_in y 6 hy, br_t rfl H⟩⟩
theorem zh_same0 {v fw fb : Int32} {post : Int32 → Prop} {x y top w r h hr : Nat} {a1 a2 a3 a4 a5 a6 a7 a8 : Nat → Int32} (hx : x < 6) (hy : y < 6) (hS : zh_S v top w r h hr a1 a2 a3 a4) (e0 : zh_g hr x = zh_g hr y) (e1 : zh_g h x ≠ zh_g h y) (g1 : zh_g h x < 72) (g2 : zh_g h y < 72) (H : post 0) :
    wpX_same post (nI top, fw, fb, a1, a2, a3, a4, a5, a6, a7, a8) (nI x) (nI y) := by
  obtain ⟨htop, h1, h2, h3, h4⟩ := hS
  unfold wpX_same
  dsimp only
  refine zh_reg hx (br_f (by decide) (zh_reg hy (br_f (by decide) ?_)))
  rw [nI_clamp (show x < 2 ^ 31 by omega), nI_clamp (show y < 2 ^ 31 by omega), h4 x hx, h4 y hy, h3 x hx, h3 y hy, e0, zh_dl (show zh_g h x < 255 by omega), zh_dl (show zh_g h y < 255 by omega)]
  exact ⟨pk_in x 6 hx, pk_in y 6 hy, br_t rfl ⟨pk_in x 6 hx, pk_in y 6 hy, pk_eq (zh_g h x) (zh_g h y) (fun z => absurd z e1) (fun _ => H)⟩⟩
theorem zh_col {v fw fb : Int32} {post : Int32 → St2 → Prop} {k : Nat → Nat → Nat → Nat → Bool} {top w r h hr : Nat} {a1 a2 a3 a4 a5 a6 a7 a8 : Nat → Int32} (hh : zv_sq k top w r h hr = true) (hS : zh_S v top w r h hr a1 a2 a3 a4)
    (H : ∀ (t' w' r' h' : Nat) (fw' fb' : Int32) (b1 b2 b3 b4 b5 b6 b7 b8 : Nat → Int32), zh_S v t' w' r' h' hr b1 b2 b3 b4 → k t' w' r' h' = true → post (nI t') (nI t', fw', fb', b1, b2, b3, b4, b5, b6, b7, b8)) : wpX_collect post (nI top, fw, fb, a1, a2, a3, a4, a5, a6, a7, a8) := by
  unfold wpX_collect
  exact zh_sq hh hS H
end
section
/-! the law's own evaluator: f, g, e the three lengths; q: which register is lost (6: none) -/
noncomputable def zw_fin (E Z top w r h hr : Nat) : Bool :=
  zv_sq (fun t w r h => zh_c (Nat.beq t (Nat.add Z 7)) (zh_c (zv_fl w h hr 4 6) (zv_fl w h hr 5 E) false) false) top w r h hr
noncomputable def zw_lpb (E Z : Nat) (ih : Nat → Nat → Nat → Nat → Nat → Nat → Bool) (i top w r h hr : Nat) : Bool :=
  zh_c (Nat.ble 8 i) (zv_mk (fun t w r h hr => zv_mk (fun t w r h hr => zw_fin E Z t w r h hr) 4 6 t w r h hr) 4 6 top w r h hr) (zh_f (Nat.succ i) (fun j => zv_mk (fun t w r h hr => ih j t w r h hr) 4 6 top w r h hr))
noncomputable def zw_lp (E Z n : Nat) : Nat → Nat → Nat → Nat → Nat → Nat → Bool :=
  @Nat.rec (fun _ => Nat → Nat → Nat → Nat → Nat → Nat → Bool) (fun _ _ _ _ _ _ => false) (fun _ ih => zw_lpb E Z ih) n
noncomputable def zw_5 (E Z W top w r h hr : Nat) : Bool :=
  zv_nm (fun h hr => zv_sq (fun t w r h => zh_c (Nat.beq t W) (zv_nm (fun h hr => zv_nm (fun h hr => zv_sq (fun t w r h => zh_c (Nat.beq t Z) (zw_lp E Z 20 0 t w r h hr) false) t w r h hr) 2 0 h hr) 1 0 h hr) false) top w r h hr) 0 0 h hr
noncomputable def zw_4 (pr g E Z W top w r h hr : Nat) : Bool :=
  zh_c (Nat.beq pr 0) (zw_5 E Z W top w r h hr) (zh_c (Nat.ble g 1) (zw_5 E Z W top w r h hr) (zv_ld (fun h hr => zh_c (Nat.beq (zh_g hr 2) 0) (zh_c (Nat.beq (zh_g h 2) 255) (zw_5 E Z W top w r h hr) false) false) 2 1 0 w r h hr))
noncomputable def zw_3 (pr g E Z W top w r h hr : Nat) : Bool :=
  zh_c (Nat.beq pr 0) (zw_4 pr g E Z W top w r h hr) (zh_f (Nat.sub g 1) (fun fl => zv_ld (fun h hr => zh_c (Nat.beq (zh_g hr 2) (zh_g hr 0)) (zh_c (Nat.beq (zh_g h 2) (zh_g h 0)) (zh_c (Nat.beq (zh_g hr 1) (zh_g hr 0)) (zh_c (Nat.beq (zh_g h 1) (zh_g h 0)) false (zh_c (Nat.ble 72 (zh_g h 1)) false (zh_c (Nat.ble 72 (zh_g h 0)) false (zw_4 pr g E Z W top w r h hr)))) false) false) false) 2 1 fl w r h hr))
noncomputable def zw_2 (pr f g G E Z W top w r h hr : Nat) : Bool :=
  zh_c (Nat.beq pr 0) (zh_c (Nat.beq (zh_g hr 0) 0) (zh_c (zv_fl w h hr 1 G) (zw_3 pr g E Z W top w r h hr) false) false) (zh_f (Nat.sub f 1) (fun fl => zv_ld (fun h hr => zh_c (zv_fl w h hr 1 G) (zw_3 pr g E Z W top w r h hr) false) 1 0 fl w r h hr))
noncomputable def zw_1 (pr f g F G E Z W T top w r h hr : Nat) : Bool :=
  zh_c (Nat.beq top T) (zv_sq (fun t w r h => zh_c (Nat.beq t W) (zh_c (zv_fl w h hr 0 F) (zh_c (zv_fl w h hr 5 E) (zw_2 pr f g G E Z W t w r h hr) false) false) false) top w r h hr) false
noncomputable def zw_q (f g e q T top w r h hr : Nat) : Bool :=
  zh_f (Nat.succ e) (fun e1 => zh_f (Nat.add (Nat.add f g) 2) (fun p1 => zh_c (Nat.beq q 0) (zw_1 0 f g 0 0 e e1 e1 T top w r h hr) (zh_c (Nat.beq q 5) (zw_1 1 f g f g 0 0 p1 T top w r h hr) (zh_f (Nat.add p1 e1) (fun s1 => zw_1 1 f g f g e e1 s1 T top w r h hr)))))
noncomputable def zw_0 (f g e q T top w r h hr : Nat) : Bool :=
  zv_nm (fun h hr => zv_sq (fun t w r h => zh_c (Nat.beq t T) (zh_c (Nat.ble q 5) (zv_nm (fun h hr => zw_q f g e q T t w r h hr) q 4 h hr) (zw_q f g e q T t w r h hr)) false) top w r h hr) 1 9 h hr
noncomputable def zw_s (f g e q T top w r h hr : Nat) : Bool :=
  zh_f (Nat.sub f 1) (fun f1 => zh_f (Nat.sub g 1) (fun g1 => zv_st (fun w r => zv_st (fun w r => zv_nm (fun h hr => zh_c (Nat.ble g 1) (zw_0 f g e q T top w r h hr) (zv_st (fun w r => zw_0 f g e q T top w r h hr) 1 0 3 w r h hr)) 3 255 h hr) 1 g1 0 w r h hr) 0 f1 1 w r h hr))
noncomputable def zw_law (f g e q : Nat) : Bool :=
  zh_f (Nat.add (Nat.add (Nat.add f g) e) 3) (fun T => zv_mk (fun t w r h hr => zv_mk (fun t w r h hr => zv_mk (fun t w r h hr => zh_c (Nat.beq t T) (zw_s f g e q T t w r h hr) false) 1 g t w r h hr) 5 e t w r h hr) 0 f 0 0 0 0 0)
/-- p holds on 0 .. n - 1 -/
noncomputable def zw_up (p : Nat → Bool) (n : Nat) : Bool := @Nat.rec (fun _ => Bool) true (fun m ih => zh_c (p m) ih false) n
theorem zw_up_e {p : Nat → Bool} : ∀ {n : Nat}, zw_up p n = true → ∀ i, i < n → p i = true := by
  intro n
  induction n with
  | zero => intro _ i hi; exact absurd hi (by omega)
  | succ n ih =>
    intro h i hi
    have h' : zh_c (p n) (zw_up p n) false = true := h
    obtain ⟨h1, h2⟩ := zh_and h'
    by_cases e : i = n
    · rw [e]; exact h1
    · exact ih h2 i (by omega)
noncomputable def zw_all (f g : Nat) : Bool := zw_up (fun e => zw_up (fun q => zw_law f g (Nat.succ e) q) 7) 6
end
section
/-! the walk of the law, from its end to its beginning -/
theorem zl_629 {v x8 x11 fw fb : Int32} {post : Int32 → St0 → Prop} {mc ms kc ks E Z top w r h hr : Nat} {a1 a2 a3 a4 a5 a6 a7 a8 : Nat → Int32} (hp : post 1 ()) (hth : (x11 = 0 ∧ E = 0 ∧ Z = 0) ∨ (¬ x11 = 0 ∧ x8 = nI E ∧ Z = E + 1)) (hE : E ≤ 6) (hS : zh_S v top w r h hr a1 a2 a3 a4) (hh : zw_fin E Z top w r h hr = true) :
    wL_lawOf_629 post mc ms x8 x11 (nI Z) kc ks (nI top) fw fb a1 a2 a3 a4 a5 a6 a7 a8 := by
  unfold zw_fin at hh
  unfold wL_lawOf_629
  refine nm_r (show nI Z + 14 = nI (Z + 14) from nI_add Z 14) ?_
  refine zh_col hh hS (fun t w r h fw' fb' b1 b2 b3 b4 b5 b6 b7 b8 gS hh => ?_)
  obtain ⟨e1, hh⟩ := zh_eqT hh
  obtain ⟨e2, e3⟩ := zh_and hh
  refine br_t (show nI t = nI (Z + 14) - 7 from by rw [e1]; exact (pk_sub (a := Z + 14) (b := 7) (by omega)).symm) ?_
  refine zh_fields (x := 4) (e := 6) e2 (by omega) (by omega) gS (br_t rfl (zh_fields (x := 5) e3 (by omega) (by omega) gS ?_))
  rcases hth with ⟨z1, z2, _⟩ | ⟨z1, z2, _⟩
  · exact br_t z1 (br_t (by rw [z2]; rfl) hp)
  · exact br_f z1 (br_t z2.symm hp)
theorem zw_lp_s (E Z n i top w r h hr : Nat) : zw_lp E Z (n + 1) i top w r h hr = zh_c (Nat.ble 8 i) (zv_mk (fun t w r h hr => zv_mk (fun t w r h hr => zw_fin E Z t w r h hr) 4 6 t w r h hr) 4 6 top w r h hr) (zv_mk (fun t w r h hr => zw_lp E Z n (i + 1) t w r h hr) 4 6 top w r h hr) := by
  show zw_lpb E Z (zw_lp E Z n) i top w r h hr = _
  unfold zw_lpb
  simp only [zh_fe, zn_1]
theorem zl_566 {v x8 x11 : Int32} {post : Int32 → St0 → Prop} {mc ms kc ks E Z : Nat} (hp : post 1 ()) (hth : (x11 = 0 ∧ E = 0 ∧ Z = 0) ∨ (¬ x11 = 0 ∧ x8 = nI E ∧ Z = E + 1)) (hE : E ≤ 6) :
    ∀ (n i top w r h hr : Nat) (fw fb : Int32) (a1 a2 a3 a4 a5 a6 a7 a8 : Nat → Int32), i ≤ 8 → zh_S v top w r h hr a1 a2 a3 a4 → zw_lp E Z n i top w r h hr = true → wL_lawOf_566 post mc ms x8 x11 kc ks n (nI i) (nI top) fw fb a1 a2 a3 a4 a5 a6 a7 a8 := by
  intro n
  induction n with
  | zero => intro i top w r h hr fw fb a1 a2 a3 a4 a5 a6 a7 a8 _ _ hh; exact Bool.noConfusion (show false = true from hh)
  | succ n ih =>
    intro i top w r h hr fw fb a1 a2 a3 a4 a5 a6 a7 a8 hi hS hh
    rw [zw_lp_s] at hh
    rw [wL_lawOf_566]
    dsimp only
    rcases zh_lec hh with ⟨e, hh⟩ | ⟨e, hh⟩
    · refine pk_le 8 i (fun _ => ?_) (fun z => absurd z (by omega))
      refine zh_make (d := 4) (m := 6) hh (by omega) (by omega) (by omega) hS (fun t w r h hr fw' fb' b1 b2 b3 b4 b5 b6 b7 b8 gS hh => br_t rfl ?_)
      refine zh_make (d := 4) (m := 6) hh (by omega) (by omega) (by omega) gS (fun t w r h hr fw' fb' c1 c2 c3 c4 c5 c6 c7 c8 gS hh => br_t rfl ?_)
      have H := fun (y : Int32) (hy : y = nI Z) => show wL_lawOf_629 post mc ms x8 x11 y kc ks (nI t) fw' fb' c1 c2 c3 c4 c5 c6 c7 c8 from by rw [hy]; exact zl_629 hp hth hE gS hh
      rcases hth with ⟨z1, z2, z3⟩ | ⟨z1, z2, z3⟩
      · exact br_t z1 (H 0 (by rw [z3]; rfl))
      · exact br_f z1 (H (x8 + 1) (by rw [z2, z3, nI_1]))
    · refine pk_le 8 i (fun z => absurd z (by omega)) (fun _ => ?_)
      refine zh_make (d := 4) (m := 6) hh (by omega) (by omega) (by omega) hS (fun t w r h hr fw' fb' b1 b2 b3 b4 b5 b6 b7 b8 gS hh => br_t rfl (nm_r (nI_1 i) ?_))
      exact ih _ _ _ _ _ _ _ _ _ _ _ _ _ _ _ _ (by omega) gS hh
theorem zl_498 {v x8 x11 fw fb : Int32} {post : Int32 → St0 → Prop} {mc ms kc ks E Z W top w r h hr : Nat} {a1 a2 a3 a4 a5 a6 a7 a8 : Nat → Int32} (hp : post 1 ()) (hth : (x11 = 0 ∧ E = 0 ∧ Z = 0) ∨ (¬ x11 = 0 ∧ x8 = nI E ∧ Z = E + 1)) (hE : E ≤ 6) (hS : zh_S v top w r h hr a1 a2 a3 a4) (hh : zw_5 E Z W top w r h hr = true) :
    wL_lawOf_498 post mc ms x8 x11 (nI W) kc ks (nI top) fw fb a1 a2 a3 a4 a5 a6 a7 a8 := by
  unfold zw_5 at hh
  unfold wL_lawOf_498
  refine zh_num (d := 0) (c := 0) hh (by omega) (by omega) (zh_dl (c := 0) (by omega)).symm hS (fun h hr b3 b4 gS hh => br_t rfl ?_)
  refine zh_col hh gS (fun t w r h fw' fb' c1 c2 c3 c4 c5 c6 c7 c8 gS hh => ?_)
  obtain ⟨e, hh⟩ := zh_eqT hh
  refine br_t (show nI t = nI W from by rw [e]) ?_
  refine zh_num (d := 1) (c := 0) hh (by omega) (by omega) (zh_dl (c := 0) (by omega)).symm gS (fun h hr d3 d4 gS hh => br_t rfl ?_)
  refine zh_num (d := 2) (c := 0) hh (by omega) (by omega) (zh_dl (c := 0) (by omega)).symm gS (fun h hr e3 e4 gS hh => br_t rfl ?_)
  refine zh_col hh gS (fun t w r h fw' fb' k1 k2 k3 k4 k5 k6 k7 k8 gS hh => ?_)
  obtain ⟨e, hh⟩ := zh_eqT hh
  have H := zl_566 (mc := mc) (ms := ms) (kc := kc) (ks := ks) hp hth hE 20 0 t w r h hr fw' fb' k1 k2 k3 k4 k5 k6 k7 k8 (by omega) gS hh
  rcases hth with ⟨z1, z2, z3⟩ | ⟨z1, z2, z3⟩
  · exact br_t z1 (br_t (show nI t = 0 from by rw [e, z3]; rfl) ⟨20, H⟩)
  · exact br_f z1 (br_t (show nI t = x8 + 1 from by rw [e, z3, z2, nI_1]) ⟨20, H⟩)
theorem zl_455 {v x8 x10 x11 fw fb : Int32} {post : Int32 → St0 → Prop} {mc ms kc ks pr g E Z W top w r h hr : Nat} {a1 a2 a3 a4 a5 a6 a7 a8 : Nat → Int32} (hp : post 1 ()) (hpr : (x10 = 0 ∧ pr = 0) ∨ (¬ x10 = 0 ∧ pr ≠ 0)) (hg : g ≤ 6) (hth : (x11 = 0 ∧ E = 0 ∧ Z = 0) ∨ (¬ x11 = 0 ∧ x8 = nI E ∧ Z = E + 1)) (hE : E ≤ 6) (hS : zh_S v top w r h hr a1 a2 a3 a4) (hh : zw_4 pr g E Z W top w r h hr = true) :
    wL_lawOf_455 post mc ms v (nI g) x8 x10 x11 (nI W) kc ks (nI top) fw fb a1 a2 a3 a4 a5 a6 a7 a8 := by
  unfold zw_4 at hh
  unfold wL_lawOf_455
  rcases zh_eqc hh with ⟨e, hh⟩ | ⟨e, hh⟩
  · rcases hpr with z | z
    · exact br_t z.1 (zl_498 hp hth hE hS hh)
    · exact absurd e z.2
  · rcases hpr with z | z
    · exact absurd z.2 e
    · refine br_f z.1 ?_
      rcases zh_lec hh with ⟨e2, hh⟩ | ⟨e2, hh⟩
      · exact pk_le g 1 (fun _ => zl_498 hp hth hE hS hh) (fun z => absurd z (by omega))
      · refine pk_le g 1 (fun z => absurd z (by omega)) (fun _ => ?_)
        refine zh_load (d := 2) (s := 1) (fl := 0) hh (by omega) (by omega) hS (fun h hr b3 b4 gS hh => br_t rfl ?_)
        obtain ⟨e3, hh⟩ := zh_eqT hh
        obtain ⟨e4, hh⟩ := zh_eqT hh
        refine zh_value (x := 2) (by omega) gS e3 e4 (br_t (zh_dv v) ?_)
        refine zh_fields (x := 2) (e := 0) (by unfold zv_fl; rw [e3]; rfl) (by omega) (by omega) gS (br_t rfl ?_)
        exact zl_498 hp hth hE gS hh
theorem zl_408 {v x8 x10 x11 z0 z1 fw fb : Int32} {post : Int32 → St0 → Prop} {mc ms kc ks pr g E Z W top w r h hr : Nat} {a1 a2 a3 a4 a5 a6 a7 a8 : Nat → Int32} (hz : z1 = z0) (hp : post 1 ()) (hpr : (x10 = 0 ∧ pr = 0) ∨ (¬ x10 = 0 ∧ pr ≠ 0)) (hg0 : 1 ≤ g) (hg : g ≤ 6) (hth : (x11 = 0 ∧ E = 0 ∧ Z = 0) ∨ (¬ x11 = 0 ∧ x8 = nI E ∧ Z = E + 1)) (hE : E ≤ 6) (hS : zh_S v top w r h hr a1 a2 a3 a4) (hh : zw_3 pr g E Z W top w r h hr = true) :
    wL_lawOf_408 post mc ms v (nI g) x8 x10 x11 (nI W) z0 z1 kc ks (nI top) fw fb a1 a2 a3 a4 a5 a6 a7 a8 := by
  unfold zw_3 at hh
  rw [zh_fe, zn_s] at hh
  unfold wL_lawOf_408
  refine br_t hz ?_
  rcases zh_eqc hh with ⟨e, hh⟩ | ⟨e, hh⟩
  · rcases hpr with z | z
    · exact br_t z.1 (zl_455 hp (Or.inl z) hg hth hE hS hh)
    · exact absurd e z.2
  · rcases hpr with z | z
    · exact absurd z.2 e
    · refine br_f z.1 ?_
      rw [zh_pr hg0]
      refine zh_load (d := 2) (s := 1) hh (by omega) (by omega) hS (fun h hr b3 b4 gS hh => br_t rfl ?_)
      obtain ⟨e1, hh⟩ := zh_eqT hh
      obtain ⟨e2, hh⟩ := zh_eqT hh
      obtain ⟨e3, hh⟩ := zh_eqT hh
      obtain ⟨e4, hh⟩ := zh_neT hh
      obtain ⟨e5, hh⟩ := zh_ltT hh
      obtain ⟨e6, hh⟩ := zh_ltT hh
      refine zh_same1 (x := 2) (y := 0) (by omega) (by omega) gS e1 e2 (br_t rfl ?_)
      refine zh_same0 (x := 1) (y := 0) (by omega) (by omega) gS e3 e4 e5 e6 (br_t rfl ?_)
      exact zl_455 hp (Or.inr z) hg hth hE gS hh
theorem zl_388 {v x8 x10 x11 z0 z1 fw fb : Int32} {post : Int32 → St0 → Prop} {mc ms kc ks pr g G E Z W top w r h hr : Nat} {a1 a2 a3 a4 a5 a6 a7 a8 : Nat → Int32} (hz : z1 = z0) (hp : post 1 ()) (hpr : (x10 = 0 ∧ pr = 0) ∨ (¬ x10 = 0 ∧ pr ≠ 0)) (hG : (x10 = 0 ∧ G = 0) ∨ (¬ x10 = 0 ∧ G = g)) (hg0 : 1 ≤ g) (hg : g ≤ 6) (hth : (x11 = 0 ∧ E = 0 ∧ Z = 0) ∨ (¬ x11 = 0 ∧ x8 = nI E ∧ Z = E + 1)) (hE : E ≤ 6) (hS : zh_S v top w r h hr a1 a2 a3 a4) (hh : zh_c (zv_fl w h hr 1 G) (zw_3 pr g E Z W top w r h hr) false = true) :
    wL_lawOf_388 post mc ms v (nI g) x8 x10 x11 (nI W) z0 z1 kc ks (nI top) fw fb a1 a2 a3 a4 a5 a6 a7 a8 := by
  obtain ⟨e, hh⟩ := zh_and hh
  unfold wL_lawOf_388
  refine br_t hz ?_
  refine zh_fields (x := 1) (e := G) e (by omega) (by rcases hG with z | z <;> omega) hS ?_
  rcases hG with z | z
  · exact br_t z.1 (zl_408 (show nI G = 0 from by rw [z.2]; rfl) hp hpr hg0 hg hth hE hS hh)
  · exact br_f z.1 (zl_408 (show nI G = nI g from by rw [z.2]) hp hpr hg0 hg hth hE hS hh)
theorem zl_361 {v x8 x10 x11 z0 z1 fw fb : Int32} {post : Int32 → St0 → Prop} {mc ms kc ks pr f g G E Z W top w r h hr : Nat} {a1 a2 a3 a4 a5 a6 a7 a8 : Nat → Int32} (hz : z1 = z0) (hp : post 1 ()) (hpr : (x10 = 0 ∧ pr = 0) ∨ (¬ x10 = 0 ∧ pr ≠ 0)) (hG : (x10 = 0 ∧ G = 0) ∨ (¬ x10 = 0 ∧ G = g)) (hf0 : 1 ≤ f) (hg0 : 1 ≤ g) (hg : g ≤ 6) (hth : (x11 = 0 ∧ E = 0 ∧ Z = 0) ∨ (¬ x11 = 0 ∧ x8 = nI E ∧ Z = E + 1)) (hE : E ≤ 6) (hS : zh_S v top w r h hr a1 a2 a3 a4) (hh : zw_2 pr f g G E Z W top w r h hr = true) :
    wL_lawOf_361 post mc ms v (nI f) (nI g) x8 x10 x11 (nI W) z0 z1 kc ks (nI top) fw fb a1 a2 a3 a4 a5 a6 a7 a8 := by
  unfold zw_2 at hh
  rw [zh_fe, zn_s] at hh
  unfold wL_lawOf_361
  refine br_t hz ?_
  rw [zh_pr hf0]
  rcases zh_eqc hh with ⟨e, hh⟩ | ⟨e, hh⟩
  · obtain ⟨e1, hh⟩ := zh_eqT hh
    rcases hpr with z | z
    · exact zh_load3 (d := 1) (s := 0) e1 (by omega) (by omega) hS (br_t z.1 (zl_388 rfl hp (Or.inl z) hG hg0 hg hth hE hS hh))
    · exact absurd e z.2
  · rcases hpr with z | z
    · exact absurd z.2 e
    · exact zh_load (d := 1) (s := 0) hh (by omega) (by omega) hS (fun h hr b3 b4 gS hh => br_f z.1 (zl_388 rfl hp (Or.inr z) hG hg0 hg hth hE gS hh))
theorem zl_281 {v x10 x11 z0 z1 fw fb : Int32} {post : Int32 → St0 → Prop} {mc ms kc ks pr f g e F G E Z W T top w r h hr : Nat} {a1 a2 a3 a4 a5 a6 a7 a8 : Nat → Int32} (hp : post 1 ()) (hw : z1 + z0 = nI W) (hT : nI f + nI g + nI e + 3 = nI T) (hpr : (x10 = 0 ∧ pr = 0) ∨ (¬ x10 = 0 ∧ pr ≠ 0)) (hF : (x10 = 0 ∧ F = 0) ∨ (¬ x10 = 0 ∧ F = f)) (hG : (x10 = 0 ∧ G = 0) ∨ (¬ x10 = 0 ∧ G = g)) (hf0 : 1 ≤ f) (hf : f ≤ 6) (hg0 : 1 ≤ g) (hg : g ≤ 6) (hth : (x11 = 0 ∧ E = 0 ∧ Z = 0) ∨ (¬ x11 = 0 ∧ nI e = nI E ∧ Z = E + 1)) (hE : E ≤ 6) (hS : zh_S v top w r h hr a1 a2 a3 a4) (hh : zw_1 pr f g F G E Z W T top w r h hr = true) :
    wL_lawOf_281 post mc ms v (nI f) (nI g) (nI e) x10 x11 z0 z1 kc ks (nI top) fw fb a1 a2 a3 a4 a5 a6 a7 a8 := by
  unfold zw_1 at hh
  obtain ⟨e1, hh⟩ := zh_eqT hh
  unfold wL_lawOf_281
  refine nm_r hw (br_t (show nI top = nI f + nI g + nI e + 3 from by rw [hT, e1]) ?_)
  refine zh_col hh hS (fun t w r h fw' fb' b1 b2 b3 b4 b5 b6 b7 b8 gS hh => ?_)
  obtain ⟨e2, hh⟩ := zh_eqT hh
  obtain ⟨e3, hh⟩ := zh_and hh
  obtain ⟨e4, hh⟩ := zh_and hh
  refine br_t (show nI t = nI W from by rw [e2]) (br_t (show nI t = nI W from by rw [e2]) ?_)
  refine zh_fields (x := 0) (e := F) e3 (by omega) (by rcases hF with z | z <;> omega) gS ?_
  have H5 : ∀ y0 y1 : Int32, y1 = y0 → wL_lawOf_341 post mc ms v (nI f) (nI g) (nI e) x10 x11 (nI W) y0 y1 kc ks (nI t) fw' fb' b1 b2 b3 b4 b5 b6 b7 b8 := by
    intro y0 y1 hy
    unfold wL_lawOf_341
    refine br_t hy (zh_fields (x := 5) (e := E) e4 (by omega) (by omega) gS ?_)
    have hth' := hth
    rcases hth' with ⟨z1, z2, z3⟩ | ⟨z1, z2, z3⟩
    · exact br_t z1 (zl_361 (show nI E = 0 from by rw [z2]; rfl) hp hpr hG hf0 hg0 hg hth hE gS hh)
    · exact br_f z1 (zl_361 z2.symm hp hpr hG hf0 hg0 hg hth hE gS hh)
  rcases hF with z | z
  · exact br_t z.1 (H5 _ _ (by rw [z.2]; rfl))
  · exact br_f z.1 (H5 _ _ (by rw [z.2]))
/-- which register is lost: q is its number, 6 where there is none -/
def zl_Q (x4 : Int32) (q : Nat) : Prop := (q ≤ 5 ∧ x4 = nI q) ∨ (q = 6 ∧ (x4 < 0 ∨ (¬ x4 < 0 ∧ 5 < x4)))
theorem zl_Q0 {x4 : Int32} {q : Nat} (hQ : zl_Q x4 q) (h : q = 0) : x4 = 0 := by
  rcases hQ with z | z
  · rw [z.2, h]; rfl
  · omega
theorem zl_Q5 {x4 : Int32} {q : Nat} (hQ : zl_Q x4 q) (h : q = 5) : x4 = 5 := by
  rcases hQ with z | z
  · rw [z.2, h]; rfl
  · omega
theorem zl_Qn {x4 : Int32} {q : Nat} (hQ : zl_Q x4 q) (k : Nat) (hk : k ≤ 5) (h : q ≠ k) : ¬ x4 = nI k := by
  intro hx
  rcases hQ with z | z
  · rw [z.2] at hx
    exact h ((nI_eq (by omega) (by omega)).mp hx)
  · rw [hx] at z
    rcases z.2 with y | y
    · exact nI_pos (by omega) y
    · exact nI_nlt (a := 5) (b := k) hk (by decide) y.2
theorem zl_222 {v x4 z0 z1 fw fb : Int32} {post : Int32 → St0 → Prop} {mc ms kc ks f g e q T top w r h hr : Nat} {a1 a2 a3 a4 a5 a6 a7 a8 : Nat → Int32} (hz : z1 = z0) (hp : post 1 ()) (hQ : zl_Q x4 q) (hT : nI f + nI g + nI e + 3 = nI T) (hf0 : 1 ≤ f) (hf : f ≤ 6) (hg0 : 1 ≤ g) (hg : g ≤ 6) (he : e ≤ 6) (hS : zh_S v top w r h hr a1 a2 a3 a4) (hh : zw_q f g e q T top w r h hr = true) :
    wL_lawOf_222 post mc ms v x4 (nI f) (nI g) (nI e) z0 z1 kc ks (nI top) fw fb a1 a2 a3 a4 a5 a6 a7 a8 := by
  unfold zw_q at hh
  simp only [zh_fe, zn_a, zn_1] at hh
  unfold wL_lawOf_222
  refine br_t hz ?_
  have h11 : ¬ (1 : Int32) = 0 := by decide
  rcases zh_eqc hh with ⟨e0, hh⟩ | ⟨e0, hh⟩
  · have hx := zl_Q0 hQ e0
    have hx5 : ¬ x4 = 5 := by rw [hx]; decide
    refine br_t hx (br_f hx5 (br_t rfl (br_f h11 ?_)))
    exact zl_281 hp (show 0 + (nI e + 1) = nI (e + 1) from by rw [nI_1]; exact (nI_add 0 (e + 1)).trans (by rw [Nat.zero_add])) hT (Or.inl ⟨rfl, rfl⟩) (Or.inl ⟨rfl, rfl⟩) (Or.inl ⟨rfl, rfl⟩) hf0 hf hg0 hg (Or.inr ⟨h11, rfl, rfl⟩) he hS hh
  · have hx : ¬ x4 = 0 := zl_Qn hQ 0 (by omega) e0
    have hfg : nI f + nI g + 2 = nI (f + g + 2) := by rw [nI_add]; exact nI_add (f + g) 2
    rcases zh_eqc hh with ⟨e5, hh⟩ | ⟨e5, hh⟩
    · refine br_f hx (br_t (zl_Q5 hQ e5) (br_f h11 (br_t rfl ?_)))
      exact zl_281 hp (show nI f + nI g + 2 + 0 = nI (f + g + 2) from by rw [hfg]; exact nI_add (f + g + 2) 0) hT (Or.inr ⟨h11, by decide⟩) (Or.inr ⟨h11, rfl⟩) (Or.inr ⟨h11, rfl⟩) hf0 hf hg0 hg (Or.inl ⟨rfl, rfl, rfl⟩) (by omega) hS hh
    · refine br_f hx (br_f (zl_Qn hQ 5 (by omega) e5) (br_f h11 (br_f h11 ?_)))
      exact zl_281 hp (show nI f + nI g + 2 + (nI e + 1) = nI (f + g + 2 + (e + 1)) from by rw [hfg, nI_1, nI_add]) hT (Or.inr ⟨h11, by decide⟩) (Or.inr ⟨h11, rfl⟩) (Or.inr ⟨h11, rfl⟩) hf0 hf hg0 hg (Or.inr ⟨h11, rfl, rfl⟩) he hS hh
theorem zh_num6 {x4 p fw fb : Int32} {post : Int32 → St2 → Prop} {t : Int32} {a1 a2 a3 a4 a5 a6 a7 a8 : Nat → Int32} (hx : x4 < 0 ∨ (¬ x4 < 0 ∧ 5 < x4)) (H : post (-1) (t, fw, fb, a1, a2, a3, a4, a5, a6, a7, a8)) : wpX_number post (t, fw, fb, a1, a2, a3, a4, a5, a6, a7, a8) x4 p := by
  unfold wpX_number
  dsimp only
  unfold wpX_isRegister
  rcases hx with z | z
  · exact br_t z (br_t rfl H)
  · exact br_f z.1 (br_t z.2 (br_t rfl H))
theorem zl_155 {v x4 fw fb : Int32} {post : Int32 → St0 → Prop} {mc ms kc ks f g e q T top w r h hr : Nat} {a1 a2 a3 a4 a5 a6 a7 a8 : Nat → Int32} (hp : post 1 ()) (hQ : zl_Q x4 q) (hT : nI f + nI g + nI e + 3 = nI T) (hf0 : 1 ≤ f) (hf : f ≤ 6) (hg0 : 1 ≤ g) (hg : g ≤ 6) (he : e ≤ 6) (hS : zh_S v top w r h hr a1 a2 a3 a4) (hh : zw_0 f g e q T top w r h hr = true) :
    wL_lawOf_155 post mc ms v x4 (nI f) (nI g) (nI e) kc ks (nI top) fw fb a1 a2 a3 a4 a5 a6 a7 a8 := by
  unfold zw_0 at hh
  unfold wL_lawOf_155
  refine zh_num (d := 1) (c := 9) hh (by omega) (by omega) (zh_dl (c := 9) (by omega)).symm hS (fun h hr b3 b4 gS hh => br_t rfl ?_)
  refine zh_col hh gS (fun t w r h fw' fb' c1 c2 c3 c4 c5 c6 c7 c8 gS hh => ?_)
  obtain ⟨e1, hh⟩ := zh_eqT hh
  refine br_t (show nI t = nI f + nI g + nI e + 3 from by rw [hT, e1]) ?_
  have hQ' := hQ
  rcases hQ' with ⟨hq, hx⟩ | ⟨hq, hx⟩
  · rcases zh_lec hh with ⟨e2, hh⟩ | ⟨e2, hh⟩
    · subst hx
      refine pk_lt q 0 (fun z => absurd z (by omega)) (fun _ => pk_lt 5 q (fun z => absurd z (by omega)) (fun _ => ?_))
      unfold wL_lawOf_202
      refine zh_num (d := q) (c := 4) hh (by omega) (by omega) (zh_dl (c := 4) (by omega)).symm gS (fun h hr d3 d4 gS hh => br_f (by decide) ?_)
      exact zl_222 rfl hp hQ hT hf0 hf hg0 hg he gS hh
    · exact absurd e2 (by omega)
  · rcases zh_lec hh with ⟨e2, hh⟩ | ⟨e2, hh⟩
    · exact absurd e2 (by omega)
    · have H : wL_lawOf_202 post mc ms v x4 (nI f) (nI g) (nI e) 0 kc ks (nI t) fw' fb' c1 c2 c3 c4 c5 c6 c7 c8 := by
        unfold wL_lawOf_202
        exact zh_num6 hx (br_t rfl (zl_222 rfl hp hQ hT hf0 hf hg0 hg he gS hh))
      rcases hx with z | z
      · exact br_t z H
      · exact br_f z.1 (br_t z.2 H)
theorem zl_len (p : Int32) : ∃ f : Nat, 1 ≤ f ∧ f ≤ 6 ∧ 1 + ((p &&& 255) - (p &&& 255) / 6 * 6) = nI f := by
  obtain ⟨j, hj, e⟩ := pk_andE p (m := 255) 8 (by decide)
  refine ⟨1 + j % 6, by omega, by omega, ?_⟩
  rw [e]
  have h := pk_rem (a := j) (d := 6) (by omega) (by decide) (by decide)
  have h' : nI j - nI j / 6 * 6 = nI (j % 6) := h
  rw [h']
  exact nI_add 1 (j % 6)
theorem zl_q (x4 : Int32) : ∃ q : Nat, q ≤ 6 ∧ zl_Q x4 q := by
  by_cases h0 : x4 < 0
  · exact ⟨6, by omega, Or.inr ⟨rfl, Or.inl h0⟩⟩
  · by_cases h5 : 5 < x4
    · exact ⟨6, by omega, Or.inr ⟨rfl, Or.inr ⟨h0, h5⟩⟩⟩
    · obtain ⟨j, hj, e⟩ := nI_of2 (M := 5) (n := 5) (by decide) h0 (Int32.not_lt.mp h5)
      exact ⟨j, by omega, Or.inl ⟨hj, e⟩⟩
end
section
/-! the kernel runs the evaluator on all cases: six lengths each, seven registers (6: none) -/
theorem zt_11 : zw_all 1 1 = true := by decide +kernel
theorem zt_12 : zw_all 1 2 = true := by decide +kernel
theorem zt_13 : zw_all 1 3 = true := by decide +kernel
theorem zt_14 : zw_all 1 4 = true := by decide +kernel
theorem zt_15 : zw_all 1 5 = true := by decide +kernel
theorem zt_16 : zw_all 1 6 = true := by decide +kernel
theorem zt_21 : zw_all 2 1 = true := by decide +kernel
theorem zt_22 : zw_all 2 2 = true := by decide +kernel
theorem zt_23 : zw_all 2 3 = true := by decide +kernel
theorem zt_24 : zw_all 2 4 = true := by decide +kernel
theorem zt_25 : zw_all 2 5 = true := by decide +kernel
theorem zt_26 : zw_all 2 6 = true := by decide +kernel
theorem zt_31 : zw_all 3 1 = true := by decide +kernel
theorem zt_32 : zw_all 3 2 = true := by decide +kernel
theorem zt_33 : zw_all 3 3 = true := by decide +kernel
theorem zt_34 : zw_all 3 4 = true := by decide +kernel
theorem zt_35 : zw_all 3 5 = true := by decide +kernel
theorem zt_36 : zw_all 3 6 = true := by decide +kernel
theorem zt_41 : zw_all 4 1 = true := by decide +kernel
theorem zt_42 : zw_all 4 2 = true := by decide +kernel
theorem zt_43 : zw_all 4 3 = true := by decide +kernel
theorem zt_44 : zw_all 4 4 = true := by decide +kernel
theorem zt_45 : zw_all 4 5 = true := by decide +kernel
theorem zt_46 : zw_all 4 6 = true := by decide +kernel
theorem zt_51 : zw_all 5 1 = true := by decide +kernel
theorem zt_52 : zw_all 5 2 = true := by decide +kernel
theorem zt_53 : zw_all 5 3 = true := by decide +kernel
theorem zt_54 : zw_all 5 4 = true := by decide +kernel
theorem zt_55 : zw_all 5 5 = true := by decide +kernel
theorem zt_56 : zw_all 5 6 = true := by decide +kernel
theorem zt_61 : zw_all 6 1 = true := by decide +kernel
theorem zt_62 : zw_all 6 2 = true := by decide +kernel
theorem zt_63 : zw_all 6 3 = true := by decide +kernel
theorem zt_64 : zw_all 6 4 = true := by decide +kernel
theorem zt_65 : zw_all 6 5 = true := by decide +kernel
theorem zt_66 : zw_all 6 6 = true := by decide +kernel
theorem zt_all : ∀ f, f < 6 → ∀ g, g < 6 → zw_all (f + 1) (g + 1) = true := by
  intro f hf g hg
  have h1 : f = 0 ∨ f = 1 ∨ f = 2 ∨ f = 3 ∨ f = 4 ∨ f = 5 := by omega
  have h2 : g = 0 ∨ g = 1 ∨ g = 2 ∨ g = 3 ∨ g = 4 ∨ g = 5 := by omega
  rcases h1 with h1 | h1 | h1 | h1 | h1 | h1 <;> rcases h2 with h2 | h2 | h2 | h2 | h2 | h2 <;> subst h1 <;> subst h2
  · exact zt_11
  · exact zt_12
  · exact zt_13
  · exact zt_14
  · exact zt_15
  · exact zt_16
  · exact zt_21
  · exact zt_22
  · exact zt_23
  · exact zt_24
  · exact zt_25
  · exact zt_26
  · exact zt_31
  · exact zt_32
  · exact zt_33
  · exact zt_34
  · exact zt_35
  · exact zt_36
  · exact zt_41
  · exact zt_42
  · exact zt_43
  · exact zt_44
  · exact zt_45
  · exact zt_46
  · exact zt_51
  · exact zt_52
  · exact zt_53
  · exact zt_54
  · exact zt_55
  · exact zt_56
  · exact zt_61
  · exact zt_62
  · exact zt_63
  · exact zt_64
  · exact zt_65
  · exact zt_66
theorem zt_run {f g e q : Nat} (hf0 : 1 ≤ f) (hf : f ≤ 6) (hg0 : 1 ≤ g) (hg : g ≤ 6) (he0 : 1 ≤ e) (he : e ≤ 6) (hq : q ≤ 6) : zw_law f g e q = true := by
  obtain ⟨f, rfl⟩ : ∃ k, f = k + 1 := ⟨f - 1, by omega⟩
  obtain ⟨g, rfl⟩ : ∃ k, g = k + 1 := ⟨g - 1, by omega⟩
  obtain ⟨e, rfl⟩ : ∃ k, e = k + 1 := ⟨e - 1, by omega⟩
  exact zw_up_e (zw_up_e (zt_all f (by omega) g (by omega)) e (by omega)) q (by omega)
end
section
/-! the law, and the owed statement -/
theorem zl_law {post : Int32 → St0 → Prop} (hp : post 1 ()) (p0 p1 p2 p3 p4 : Int32) : wpL_lawOf post 142 2256 () p0 p1 p2 p3 p4 := by
  obtain ⟨f, hf0, hf, ef⟩ := zl_len p0
  obtain ⟨g, hg0, hg, eg⟩ := zl_len p1
  obtain ⟨e, he0, he, ee⟩ := zl_len p2
  obtain ⟨q, hq, hQ⟩ := zl_q p4
  have hh := zt_run hf0 hf hg0 hg he0 he hq
  unfold zw_law at hh
  rw [zh_fe] at hh
  have hT : nI f + nI g + nI e + 3 = nI (f + g + e + 3) := by
    rw [nI_add, nI_add]
    exact nI_add (f + g + e) 3
  unfold wpL_lawOf
  refine ⟨by decide, by decide, 8, 348, by decide, by decide, ?_⟩
  unfold wpX_init
  refine ⟨by decide, by decide, by decide, by decide, by decide, by decide, by decide, by decide, by decide, by decide, by decide, by decide, by decide, by decide, by decide, by decide, ?_⟩
  refine ⟨by decide, nm_r ef ⟨by decide, nm_r eg ⟨by decide, nm_r ee ?_⟩⟩⟩
  have h0 : zh_S p3 0 0 0 0 0 (fun _ => 0) (fun _ => 0) (fun _ => 0) (fun _ => 0) := by
    refine ⟨by omega, fun i _ => ?_, fun i _ => ?_, fun i _ => ?_, fun i _ => ?_⟩
    · rw [zh_g0, zh_dl (by omega)]; rfl
    · rw [zh_g0]; rfl
    · rw [zh_g0, zh_dl (by omega)]; rfl
    · rw [zh_g0]; rfl
  refine zh_make (d := 0) (m := f) (top := 0) hh (by omega) hf0 hf h0 (fun t w r h hr fw fb a1 a2 a3 a4 a5 a6 a7 a8 gS hh => br_t rfl ?_)
  refine zh_make (d := 5) (m := e) hh (by omega) he0 he gS (fun t w r h hr fw fb b1 b2 b3 b4 b5 b6 b7 b8 gS hh => br_t rfl ?_)
  refine zh_make (d := 1) (m := g) hh (by omega) hg0 hg gS (fun t w r h hr fw fb c1 c2 c3 c4 c5 c6 c7 c8 gS hh => br_t rfl ?_)
  obtain ⟨e1, hh⟩ := zh_eqT hh
  refine br_t (show nI t = nI f + nI g + nI e + 3 from by rw [hT, e1]; rfl) ?_
  unfold zw_s at hh
  simp only [zh_fe, zn_s] at hh
  rw [zh_pr hf0, zh_pr hg0]
  refine zh_store (t := 0) (s := 1) hh (by omega) (by omega) gS (fun w r d1 d2 gS hh => br_t rfl ?_)
  refine zh_store (t := 1) (s := 0) hh (by omega) (by omega) gS (fun w r k1 k2 gS hh => br_t rfl ?_)
  refine zh_num (d := 3) (c := 255) hh (by omega) (by omega) (zh_dv p3).symm gS (fun h hr m3 m4 gS hh => br_t rfl ?_)
  rcases zh_lec hh with ⟨e2, hh⟩ | ⟨e2, hh⟩
  · exact pk_le g 1 (fun _ => zl_155 hp hQ hT hf0 hf hg0 hg he gS hh) (fun z => absurd z (by omega))
  · refine pk_le g 1 (fun z => absurd z (by omega)) (fun _ => ?_)
    exact zh_store (t := 1) (fl := 0) (s := 3) hh (by omega) (by omega) gS (fun w r n1 n2 gS hh => br_t rfl (zl_155 hp hQ hT hf0 hf hg0 hg he gS hh))
theorem zl_cell {post : Int32 → Prop} {L : Nat} {xs : Nat → Int32} (i : Nat) (hi : i ≤ 5) (hL : L ≤ 5) (H : ∀ x, post x) : wpL_cellAt post L xs () (nI i) :=
  pk_le L i (fun _ => H 0) (fun z => ⟨pk_in i L z, H _⟩)
theorem i_vc (xs : Nat → Int32) (L : Nat) (hL : L ≤ 5) : wpL_law (fun r => r = 1) L xs :=
  zl_cell 0 (by omega) hL (fun _ => zl_cell 1 (by omega) hL (fun _ => zl_cell 2 (by omega) hL (fun _ => zl_cell 3 (by omega) hL (fun _ => zl_cell 4 (by omega) hL (fun _ => ⟨142, 2256, by decide, by decide, zl_law rfl _ _ _ _ _⟩)))))
end
