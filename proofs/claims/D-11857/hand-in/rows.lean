section
/-- run an int to its number before it goes on -/
noncomputable def qb_v (e : Int32) (k : Int32 → Bool) : Bool := @Nat.rec (fun _ => Bool) (k (nI 0)) (fun m _ => k (nI (m + 1))) e.toBitVec.toNat
/-- the same for a number -/
noncomputable def qb_n (i : Nat) (k : Nat → Bool) : Bool := @Nat.rec (fun _ => Bool) (k 0) (fun m _ => k (m + 1)) i
/-- a store into an array: place and value are run first -/
noncomputable def qb_a (f : Nat → Int32) (i : Nat) (v : Int32) (k : (Nat → Int32) → Bool) : Bool := qb_n i (fun j => qb_v v (fun w => k (upd f j w)))
/-- within the bounds -/
def qb_in (i : Int32) (n : Nat) : Bool := if i < 0 then false else decide (i.toNatClampNeg < n)
theorem qb_nI (e : Int32) : nI e.toBitVec.toNat = e := by
  apply Int32.toBitVec_inj.1
  unfold nI
  rw [Int32.toBitVec_ofNat']
  simp
theorem qb_v_eq (e : Int32) (k : Int32 → Bool) : qb_v e k = k e := by
  have h := qb_nI e
  unfold qb_v
  generalize e.toBitVec.toNat = n at h
  cases n with
  | zero => exact congrArg k h
  | succ m => exact congrArg k h
theorem qb_n_eq (i : Nat) (k : Nat → Bool) : qb_n i k = k i := by
  cases i with
  | zero => rfl
  | succ m => rfl
theorem qb_a_eq (f : Nat → Int32) (i : Nat) (v : Int32) (k : (Nat → Int32) → Bool) : qb_a f i v k = k (upd f i v) := by
  unfold qb_a
  rw [qb_n_eq, qb_v_eq]
theorem qs_if {c : Prop} [Decidable c] {A B : Prop} {a b : Bool} (ha : a = true → A) (hb : b = true → B) : (if c then a else b) = true → (c → A) ∧ (¬ c → B) := by
  intro h
  by_cases g : c
  · rw [if_pos g] at h
    exact ⟨fun _ => ha h, fun z => absurd g z⟩
  · rw [if_neg g] at h
    exact ⟨fun z => absurd z g, fun _ => hb h⟩
theorem qs_vp {i : Int32} {n : Nat} {B : Prop} {b : Bool} (hb : b = true → B) : (qb_in i n && b) = true → vp_in i n ∧ B := by
  intro h
  rw [Bool.and_eq_true] at h
  refine ⟨?_, hb h.2⟩
  have h1 := h.1
  unfold qb_in at h1
  by_cases g : i < 0
  · rw [if_pos g] at h1
    exact absurd h1 Bool.false_ne_true
  · rw [if_neg g] at h1
    have h2 := of_decide_eq_true h1
    intro z
    rcases z with z | z
    · exact g z
    · omega
theorem qs_n3 {B : Prop} {b : Bool} (hb : b = true → B) : b = true → ¬ (3 : Int32) = 0 ∧ B := fun h => ⟨by decide, hb h⟩
theorem qs_v {e : Int32} {k : Int32 → Bool} {P : Int32 → Prop} (h : ∀ x, k x = true → P x) : qb_v e k = true → ∀ x, x = e → P x := by
  intro g x hx
  rw [qb_v_eq] at g
  subst hx
  exact h _ g
theorem qs_f {e : Int32} {k : Int32 → Bool} {B : Prop} (h : k e = true → B) : qb_v e k = true → B := by
  intro g
  rw [qb_v_eq] at g
  exact h g
theorem qs_a {f : Nat → Int32} {i : Nat} {v : Int32} {k : (Nat → Int32) → Bool} {P : (Nat → Int32) → Prop} (h : ∀ a, k a = true → P a) : qb_a f i v k = true → ∀ a, a = upd f i v → P a := by
  intro g a ha
  rw [qb_a_eq] at g
  subst ha
  exact h _ g
theorem qs_ex {W : Nat → Prop} (n : Nat) {b : Bool} (h : b = true → W n) : b = true → ∃ m, W m := fun g => ⟨n, h g⟩
end
section
noncomputable def qb_wX_init_103 (post : St2 → Bool) (f0_vertexCount : Int32) (f0_lineLength : Int32) (f0_nextLength : Int32) : Nat → Int32 → (Nat → Int32) → (Nat → Int32) → (Nat → Int32) → (Nat → Int32) → (Nat → Int32) → (Nat → Int32) → (Nat → Int32) → (Nat → Int32) → (Nat → Int32) → Bool := fun n => @Nat.rec (fun _ => Int32 → (Nat → Int32) → (Nat → Int32) → (Nat → Int32) → (Nat → Int32) → (Nat → Int32) → (Nat → Int32) → (Nat → Int32) → (Nat → Int32) → (Nat → Int32) → Bool) (fun _ _ _ _ _ _ _ _ _ _ => false) (fun _ qih x2 am7 am15 am23 am31 am39 am47 am55 am63 am71 => (if f0_vertexCount ≤ x2 then (post (f0_vertexCount, f0_vertexCount, f0_nextLength, am7, am15, am23, am31, am39, am47, am55, am63, am71)) else (qb_in x2 16 && (qb_a am23 (x2.toNatClampNeg) (x2.toInt8.toInt32) (fun am23_41 => (qb_in x2 16 && (qb_a am31 (x2.toNatClampNeg) (((1 : Int32) <<< (x2 &&& 31))) (fun am31_43 => (qb_in x2 16 && (qb_a am39 (x2.toNatClampNeg) (x2.toInt8.toInt32) (fun am39_45 => (qb_in x2 16 && (qb_a am47 (x2.toNatClampNeg) (x2.toInt8.toInt32) (fun am47_47 => (qb_v (x2 + 1) (fun x2_48 => (qih x2_48 am7 am15 am23_41 am31_43 am39_45 am47_47 am55 am63 am71))))))))))))))))) n
theorem qs_wX_init_103 {post : St2 → Prop} {mc : Nat} {ms : Nat} {kc : Nat} {ks : Nat} {f0_vertexCount : Int32} {f0_lineLength : Int32} {f0_nextLength : Int32} {postb : St2 → Bool} (qh_post : ∀ (y0 : St2), postb y0 = true → post y0) : ∀ (n : Nat) (x2 : Int32) (am7 : (Nat → Int32)) (am15 : (Nat → Int32)) (am23 : (Nat → Int32)) (am31 : (Nat → Int32)) (am39 : (Nat → Int32)) (am47 : (Nat → Int32)) (am55 : (Nat → Int32)) (am63 : (Nat → Int32)) (am71 : (Nat → Int32)), qb_wX_init_103 postb f0_vertexCount f0_lineLength f0_nextLength n x2 am7 am15 am23 am31 am39 am47 am55 am63 am71 = true → wX_init_103 post mc ms kc ks f0_vertexCount f0_lineLength f0_nextLength n x2 am7 am15 am23 am31 am39 am47 am55 am63 am71 := by
  intro n
  induction n with
  | zero =>
    intro _ _ _ _ _ _ _ _ _ _
    exact fun h => absurd h Bool.false_ne_true
  | succ n ih =>
    intro x2 am7 am15 am23 am31 am39 am47 am55 am63 am71
    refine qs_if ?_ ?_
    · exact qh_post _
    · refine qs_vp ?_
      refine qs_a (fun am23_41 => ?_)
      refine qs_vp ?_
      refine qs_a (fun am31_43 => ?_)
      refine qs_vp ?_
      refine qs_a (fun am39_45 => ?_)
      refine qs_vp ?_
      refine qs_a (fun am47_47 => ?_)
      refine qs_v (fun x2_48 => ?_)
      exact ih _ _ _ _ _ _ _ _ _ _
noncomputable def qb_wpX_components (post : Int32 → Bool) (u : St2) : Bool := match u with
  | (f0_vertexCount, f0_lineLength, f0_nextLength, a1, a2, a3, a4, a5, a6, a7, a8, a9) => (post f0_lineLength)
theorem qs_wpX_components {post : Int32 → Prop} {u : St2} {postb : Int32 → Bool} (qh_post : ∀ (y0 : Int32), postb y0 = true → post y0) : qb_wpX_components postb u = true → wpX_components post u := by
  obtain ⟨f0_vertexCount, f0_lineLength, f0_nextLength, a1, a2, a3, a4, a5, a6, a7, a8, a9⟩ := u
  unfold qb_wpX_components wpX_components
  exact qh_post _
noncomputable def qb_wX_bitsIn_4 (post : Int32 → Bool) (x1 : Int32) (f0_vertexCount : Int32) (f0_lineLength : Int32) (f0_nextLength : Int32) (a1 : Nat → Int32) (a2 : Nat → Int32) (a3 : Nat → Int32) (a4 : Nat → Int32) (a5 : Nat → Int32) (a6 : Nat → Int32) (a7 : Nat → Int32) (a8 : Nat → Int32) (a9 : Nat → Int32) : Nat → Int32 → Int32 → Bool := fun n => @Nat.rec (fun _ => Int32 → Int32 → Bool) (fun _ _ => false) (fun _ qih x2 x3 => (if 16 ≤ x3 then (post x2) else (qb_v (x2 + ((x1 >>> (x3 &&& 31)) &&& 1)) (fun x2_2 => (qb_v (x3 + 1) (fun x3_3 => (qih x2_2 x3_3))))))) n
theorem qs_wX_bitsIn_4 {post : Int32 → Prop} {x1 : Int32} {f0_vertexCount : Int32} {f0_lineLength : Int32} {f0_nextLength : Int32} {a1 : Nat → Int32} {a2 : Nat → Int32} {a3 : Nat → Int32} {a4 : Nat → Int32} {a5 : Nat → Int32} {a6 : Nat → Int32} {a7 : Nat → Int32} {a8 : Nat → Int32} {a9 : Nat → Int32} {postb : Int32 → Bool} (qh_post : ∀ (y0 : Int32), postb y0 = true → post y0) : ∀ (n : Nat) (x2 : Int32) (x3 : Int32), qb_wX_bitsIn_4 postb x1 f0_vertexCount f0_lineLength f0_nextLength a1 a2 a3 a4 a5 a6 a7 a8 a9 n x2 x3 = true → wX_bitsIn_4 post x1 f0_vertexCount f0_lineLength f0_nextLength a1 a2 a3 a4 a5 a6 a7 a8 a9 n x2 x3 := by
  intro n
  induction n with
  | zero =>
    intro _ _
    exact fun h => absurd h Bool.false_ne_true
  | succ n ih =>
    intro x2 x3
    refine qs_if ?_ ?_
    · exact qh_post _
    · refine qs_v (fun x2_2 => ?_)
      refine qs_v (fun x3_3 => ?_)
      exact ih _ _
noncomputable def qb_wpX_bitsIn (post : Int32 → Bool) (u : St2) (p0 : Int32) : Bool := match u with
  | (f0_vertexCount, f0_lineLength, f0_nextLength, a1, a2, a3, a4, a5, a6, a7, a8, a9) => (qb_wX_bitsIn_4 post p0 f0_vertexCount f0_lineLength f0_nextLength a1 a2 a3 a4 a5 a6 a7 a8 a9 20 0 0)
theorem qs_wpX_bitsIn {post : Int32 → Prop} {u : St2} {p0 : Int32} {postb : Int32 → Bool} (qh_post : ∀ (y0 : Int32), postb y0 = true → post y0) : qb_wpX_bitsIn postb u p0 = true → wpX_bitsIn post u p0 := by
  obtain ⟨f0_vertexCount, f0_lineLength, f0_nextLength, a1, a2, a3, a4, a5, a6, a7, a8, a9⟩ := u
  unfold qb_wpX_bitsIn wpX_bitsIn
  refine qs_ex 20 ?_
  exact qs_wX_bitsIn_4 qh_post _ _ _
noncomputable def qb_wX_outerEdges_4 (post : Int32 → Bool) (f0_vertexCount : Int32) (f0_lineLength : Int32) (f0_nextLength : Int32) (a1 : Nat → Int32) (a2 : Nat → Int32) (a3 : Nat → Int32) (a4 : Nat → Int32) (a5 : Nat → Int32) (a6 : Nat → Int32) (a7 : Nat → Int32) (a8 : Nat → Int32) (a9 : Nat → Int32) : Nat → Int32 → Int32 → Bool := fun n => @Nat.rec (fun _ => Int32 → Int32 → Bool) (fun _ _ => false) (fun _ qih x1 x2 => (if f0_vertexCount ≤ x2 then (post x1) else (qb_in x2 16 && (qb_in x2 16 && (qb_in (a3 x2.toNatClampNeg) 16 && (qb_v ((a1 x2.toNatClampNeg) &&& ((a4 (a3 x2.toNatClampNeg).toNatClampNeg) ^^^ (-1))) (fun qz1 => (qb_wpX_bitsIn (fun r_5 => (qb_v (x1 + r_5) (fun x1_6 => (qb_v (x2 + 1) (fun x2_7 => (qih x1_6 x2_7)))))) (f0_vertexCount, f0_lineLength, f0_nextLength, a1, a2, a3, a4, a5, a6, a7, a8, a9) qz1)))))))) n
theorem qs_wX_outerEdges_4 {post : Int32 → Prop} {f0_vertexCount : Int32} {f0_lineLength : Int32} {f0_nextLength : Int32} {a1 : Nat → Int32} {a2 : Nat → Int32} {a3 : Nat → Int32} {a4 : Nat → Int32} {a5 : Nat → Int32} {a6 : Nat → Int32} {a7 : Nat → Int32} {a8 : Nat → Int32} {a9 : Nat → Int32} {postb : Int32 → Bool} (qh_post : ∀ (y0 : Int32), postb y0 = true → post y0) : ∀ (n : Nat) (x1 : Int32) (x2 : Int32), qb_wX_outerEdges_4 postb f0_vertexCount f0_lineLength f0_nextLength a1 a2 a3 a4 a5 a6 a7 a8 a9 n x1 x2 = true → wX_outerEdges_4 post f0_vertexCount f0_lineLength f0_nextLength a1 a2 a3 a4 a5 a6 a7 a8 a9 n x1 x2 := by
  intro n
  induction n with
  | zero =>
    intro _ _
    exact fun h => absurd h Bool.false_ne_true
  | succ n ih =>
    intro x1 x2
    refine qs_if ?_ ?_
    · exact qh_post _
    · refine qs_vp ?_
      refine qs_vp ?_
      refine qs_vp ?_
      refine qs_f ?_
      refine qs_wpX_bitsIn ?_
      intro r_5
      refine qs_v (fun x1_6 => ?_)
      refine qs_v (fun x2_7 => ?_)
      exact ih _ _
noncomputable def qb_wpX_outerEdges (post : Int32 → Bool) (u : St2) : Bool := match u with
  | (f0_vertexCount, f0_lineLength, f0_nextLength, a1, a2, a3, a4, a5, a6, a7, a8, a9) => (qb_wX_outerEdges_4 post f0_vertexCount f0_lineLength f0_nextLength a1 a2 a3 a4 a5 a6 a7 a8 a9 20 0 0)
theorem qs_wpX_outerEdges {post : Int32 → Prop} {u : St2} {postb : Int32 → Bool} (qh_post : ∀ (y0 : Int32), postb y0 = true → post y0) : qb_wpX_outerEdges postb u = true → wpX_outerEdges post u := by
  obtain ⟨f0_vertexCount, f0_lineLength, f0_nextLength, a1, a2, a3, a4, a5, a6, a7, a8, a9⟩ := u
  unfold qb_wpX_outerEdges wpX_outerEdges
  refine qs_ex 20 ?_
  exact qs_wX_outerEdges_4 qh_post _ _ _
noncomputable def qb_wX_targetsOf_4 (post : Int32 → Bool) (x1 : Int32) (f0_vertexCount : Int32) (f0_lineLength : Int32) (f0_nextLength : Int32) (a1 : Nat → Int32) (a2 : Nat → Int32) (a3 : Nat → Int32) (a4 : Nat → Int32) (a5 : Nat → Int32) (a6 : Nat → Int32) (a7 : Nat → Int32) (a8 : Nat → Int32) (a9 : Nat → Int32) : Nat → Int32 → Int32 → Bool := fun n => @Nat.rec (fun _ => Int32 → Int32 → Bool) (fun _ _ => false) (fun _ qih x2 x3 => (if f0_vertexCount ≤ x3 then (post x2) else (if ((x1 >>> (x3 &&& 31)) &&& 1) = 0 then (qb_v (x3 + 1) (fun x3_3 => (qih x2 x3_3))) else (qb_in x3 16 && (qb_v (x2 ||| (a1 x3.toNatClampNeg)) (fun x2_5 => (qb_v (x3 + 1) (fun x3_6 => (qih x2_5 x3_6))))))))) n
theorem qs_wX_targetsOf_4 {post : Int32 → Prop} {x1 : Int32} {f0_vertexCount : Int32} {f0_lineLength : Int32} {f0_nextLength : Int32} {a1 : Nat → Int32} {a2 : Nat → Int32} {a3 : Nat → Int32} {a4 : Nat → Int32} {a5 : Nat → Int32} {a6 : Nat → Int32} {a7 : Nat → Int32} {a8 : Nat → Int32} {a9 : Nat → Int32} {postb : Int32 → Bool} (qh_post : ∀ (y0 : Int32), postb y0 = true → post y0) : ∀ (n : Nat) (x2 : Int32) (x3 : Int32), qb_wX_targetsOf_4 postb x1 f0_vertexCount f0_lineLength f0_nextLength a1 a2 a3 a4 a5 a6 a7 a8 a9 n x2 x3 = true → wX_targetsOf_4 post x1 f0_vertexCount f0_lineLength f0_nextLength a1 a2 a3 a4 a5 a6 a7 a8 a9 n x2 x3 := by
  intro n
  induction n with
  | zero =>
    intro _ _
    exact fun h => absurd h Bool.false_ne_true
  | succ n ih =>
    intro x2 x3
    refine qs_if ?_ ?_
    · exact qh_post _
    · refine qs_if ?_ ?_
      · refine qs_v (fun x3_3 => ?_)
        exact ih _ _
      · refine qs_vp ?_
        refine qs_v (fun x2_5 => ?_)
        refine qs_v (fun x3_6 => ?_)
        exact ih _ _
noncomputable def qb_wpX_targetsOf (post : Int32 → Bool) (u : St2) (p0 : Int32) : Bool := match u with
  | (f0_vertexCount, f0_lineLength, f0_nextLength, a1, a2, a3, a4, a5, a6, a7, a8, a9) => (qb_wX_targetsOf_4 post p0 f0_vertexCount f0_lineLength f0_nextLength a1 a2 a3 a4 a5 a6 a7 a8 a9 20 0 0)
theorem qs_wpX_targetsOf {post : Int32 → Prop} {u : St2} {p0 : Int32} {postb : Int32 → Bool} (qh_post : ∀ (y0 : Int32), postb y0 = true → post y0) : qb_wpX_targetsOf postb u p0 = true → wpX_targetsOf post u p0 := by
  obtain ⟨f0_vertexCount, f0_lineLength, f0_nextLength, a1, a2, a3, a4, a5, a6, a7, a8, a9⟩ := u
  unfold qb_wpX_targetsOf wpX_targetsOf
  refine qs_ex 20 ?_
  exact qs_wX_targetsOf_4 qh_post _ _ _
noncomputable def qb_wX_inOneLine_2 (post : Int32 → Bool) (f0_vertexCount : Int32) (f0_lineLength : Int32) (f0_nextLength : Int32) (a1 : Nat → Int32) (a2 : Nat → Int32) (a3 : Nat → Int32) (a4 : Nat → Int32) (a5 : Nat → Int32) (a6 : Nat → Int32) (a7 : Nat → Int32) (a8 : Nat → Int32) (a9 : Nat → Int32) : Nat → Int32 → Bool := fun n => @Nat.rec (fun _ => Int32 → Bool) (fun _ => false) (fun _ qih x1 => (if f0_lineLength ≤ (x1 + 1) then (post 1) else (qb_in (x1 + 1) 16 && (qb_v (a6 (x1 + 1).toNatClampNeg) (fun x2_3 => (qb_in x1 16 && (qb_in (a6 x1.toNatClampNeg) 16 && (qb_v (a4 (a6 x1.toNatClampNeg).toNatClampNeg) (fun qz1 => (qb_wpX_targetsOf (fun r_6 => (qb_in x2_3 16 && (if (r_6 &&& (a4 x2_3.toNatClampNeg)) = 0 then (post 0) else (qb_v (x1 + 1) (fun x1_9 => (qih x1_9)))))) (f0_vertexCount, f0_lineLength, f0_nextLength, a1, a2, a3, a4, a5, a6, a7, a8, a9) qz1)))))))))) n
theorem qs_wX_inOneLine_2 {post : Int32 → Prop} {f0_vertexCount : Int32} {f0_lineLength : Int32} {f0_nextLength : Int32} {a1 : Nat → Int32} {a2 : Nat → Int32} {a3 : Nat → Int32} {a4 : Nat → Int32} {a5 : Nat → Int32} {a6 : Nat → Int32} {a7 : Nat → Int32} {a8 : Nat → Int32} {a9 : Nat → Int32} {postb : Int32 → Bool} (qh_post : ∀ (y0 : Int32), postb y0 = true → post y0) : ∀ (n : Nat) (x1 : Int32), qb_wX_inOneLine_2 postb f0_vertexCount f0_lineLength f0_nextLength a1 a2 a3 a4 a5 a6 a7 a8 a9 n x1 = true → wX_inOneLine_2 post f0_vertexCount f0_lineLength f0_nextLength a1 a2 a3 a4 a5 a6 a7 a8 a9 n x1 := by
  intro n
  induction n with
  | zero =>
    intro _
    exact fun h => absurd h Bool.false_ne_true
  | succ n ih =>
    intro x1
    refine qs_if ?_ ?_
    · exact qh_post _
    · refine qs_vp ?_
      refine qs_v (fun x2_3 => ?_)
      refine qs_vp ?_
      refine qs_vp ?_
      refine qs_f ?_
      refine qs_wpX_targetsOf ?_
      intro r_6
      refine qs_vp ?_
      refine qs_if ?_ ?_
      · exact qh_post _
      · refine qs_v (fun x1_9 => ?_)
        exact ih _
noncomputable def qb_wpX_inOneLine (post : Int32 → Bool) (u : St2) : Bool := match u with
  | (f0_vertexCount, f0_lineLength, f0_nextLength, a1, a2, a3, a4, a5, a6, a7, a8, a9) => (qb_wX_inOneLine_2 post f0_vertexCount f0_lineLength f0_nextLength a1 a2 a3 a4 a5 a6 a7 a8 a9 20 0)
theorem qs_wpX_inOneLine {post : Int32 → Prop} {u : St2} {postb : Int32 → Bool} (qh_post : ∀ (y0 : Int32), postb y0 = true → post y0) : qb_wpX_inOneLine postb u = true → wpX_inOneLine post u := by
  obtain ⟨f0_vertexCount, f0_lineLength, f0_nextLength, a1, a2, a3, a4, a5, a6, a7, a8, a9⟩ := u
  unfold qb_wpX_inOneLine wpX_inOneLine
  refine qs_ex 20 ?_
  exact qs_wX_inOneLine_2 qh_post _ _
noncomputable def qb_wpX_isVertex (post : Int32 → Bool) (u : St2) (p0 : Int32) : Bool := match u with
  | (f0_vertexCount, f0_lineLength, f0_nextLength, a1, a2, a3, a4, a5, a6, a7, a8, a9) => (if p0 < 0 then (post 0) else (if f0_vertexCount ≤ p0 then (post 0) else (post 1)))
theorem qs_wpX_isVertex {post : Int32 → Prop} {u : St2} {p0 : Int32} {postb : Int32 → Bool} (qh_post : ∀ (y0 : Int32), postb y0 = true → post y0) : qb_wpX_isVertex postb u p0 = true → wpX_isVertex post u p0 := by
  obtain ⟨f0_vertexCount, f0_lineLength, f0_nextLength, a1, a2, a3, a4, a5, a6, a7, a8, a9⟩ := u
  unfold qb_wpX_isVertex wpX_isVertex
  refine qs_if ?_ ?_
  · exact qh_post _
  · refine qs_if ?_ ?_
    · exact qh_post _
    · exact qh_post _
noncomputable def qb_wX_leadersOf_4 (post : Int32 → Bool) (x1 : Int32) (f0_vertexCount : Int32) (f0_lineLength : Int32) (f0_nextLength : Int32) (a1 : Nat → Int32) (a2 : Nat → Int32) (a3 : Nat → Int32) (a4 : Nat → Int32) (a5 : Nat → Int32) (a6 : Nat → Int32) (a7 : Nat → Int32) (a8 : Nat → Int32) (a9 : Nat → Int32) : Nat → Int32 → Int32 → Bool := fun n => @Nat.rec (fun _ => Int32 → Int32 → Bool) (fun _ _ => false) (fun _ qih x2 x3 => (if f0_vertexCount ≤ x3 then (post x2) else (if ((x1 >>> (x3 &&& 31)) &&& 1) = 0 then (qb_v (x3 + 1) (fun x3_3 => (qih x2 x3_3))) else (qb_in x3 16 && (qb_v (x2 ||| ((1 : Int32) <<< ((a3 x3.toNatClampNeg) &&& 31))) (fun x2_5 => (qb_v (x3 + 1) (fun x3_6 => (qih x2_5 x3_6))))))))) n
theorem qs_wX_leadersOf_4 {post : Int32 → Prop} {x1 : Int32} {f0_vertexCount : Int32} {f0_lineLength : Int32} {f0_nextLength : Int32} {a1 : Nat → Int32} {a2 : Nat → Int32} {a3 : Nat → Int32} {a4 : Nat → Int32} {a5 : Nat → Int32} {a6 : Nat → Int32} {a7 : Nat → Int32} {a8 : Nat → Int32} {a9 : Nat → Int32} {postb : Int32 → Bool} (qh_post : ∀ (y0 : Int32), postb y0 = true → post y0) : ∀ (n : Nat) (x2 : Int32) (x3 : Int32), qb_wX_leadersOf_4 postb x1 f0_vertexCount f0_lineLength f0_nextLength a1 a2 a3 a4 a5 a6 a7 a8 a9 n x2 x3 = true → wX_leadersOf_4 post x1 f0_vertexCount f0_lineLength f0_nextLength a1 a2 a3 a4 a5 a6 a7 a8 a9 n x2 x3 := by
  intro n
  induction n with
  | zero =>
    intro _ _
    exact fun h => absurd h Bool.false_ne_true
  | succ n ih =>
    intro x2 x3
    refine qs_if ?_ ?_
    · exact qh_post _
    · refine qs_if ?_ ?_
      · refine qs_v (fun x3_3 => ?_)
        exact ih _ _
      · refine qs_vp ?_
        refine qs_v (fun x2_5 => ?_)
        refine qs_v (fun x3_6 => ?_)
        exact ih _ _
noncomputable def qb_wpX_leadersOf (post : Int32 → Bool) (u : St2) (p0 : Int32) : Bool := match u with
  | (f0_vertexCount, f0_lineLength, f0_nextLength, a1, a2, a3, a4, a5, a6, a7, a8, a9) => (qb_wX_leadersOf_4 post p0 f0_vertexCount f0_lineLength f0_nextLength a1 a2 a3 a4 a5 a6 a7 a8 a9 20 0 0)
theorem qs_wpX_leadersOf {post : Int32 → Prop} {u : St2} {p0 : Int32} {postb : Int32 → Bool} (qh_post : ∀ (y0 : Int32), postb y0 = true → post y0) : qb_wpX_leadersOf postb u p0 = true → wpX_leadersOf post u p0 := by
  obtain ⟨f0_vertexCount, f0_lineLength, f0_nextLength, a1, a2, a3, a4, a5, a6, a7, a8, a9⟩ := u
  unfold qb_wpX_leadersOf wpX_leadersOf
  refine qs_ex 20 ?_
  exact qs_wX_leadersOf_4 qh_post _ _ _
noncomputable def qb_wX_forwardUpTo_12 (post : Int32 → Bool) (x2 : Int32) (f0_vertexCount : Int32) (f0_lineLength : Int32) (f0_nextLength : Int32) (a1 : Nat → Int32) (a2 : Nat → Int32) (a3 : Nat → Int32) (a4 : Nat → Int32) (a5 : Nat → Int32) (a6 : Nat → Int32) (a7 : Nat → Int32) (a8 : Nat → Int32) (a9 : Nat → Int32) : Nat → Int32 → Int32 → Bool := fun n => @Nat.rec (fun _ => Int32 → Int32 → Bool) (fun _ _ => false) (fun _ qih x3 x4 => (if x2 < x4 then (post x3) else (qb_in x4 16 && (qb_v (a6 x4.toNatClampNeg) (fun x5_6 => (if ((x3 >>> (x5_6 &&& 31)) &&& 1) = 0 then (qb_v (x4 + 1) (fun x4_8 => (qih x3 x4_8))) else (qb_in x5_6 16 && (qb_v (a4 x5_6.toNatClampNeg) (fun qz1 => (qb_wpX_targetsOf (fun r_10 => (qb_wpX_leadersOf (fun r_11 => (qb_v (x3 ||| r_11) (fun x3_12 => (qb_v (x4 + 1) (fun x4_13 => (qih x3_12 x4_13)))))) (f0_vertexCount, f0_lineLength, f0_nextLength, a1, a2, a3, a4, a5, a6, a7, a8, a9) r_10)) (f0_vertexCount, f0_lineLength, f0_nextLength, a1, a2, a3, a4, a5, a6, a7, a8, a9) qz1)))))))))) n
theorem qs_wX_forwardUpTo_12 {post : Int32 → Prop} {x2 : Int32} {f0_vertexCount : Int32} {f0_lineLength : Int32} {f0_nextLength : Int32} {a1 : Nat → Int32} {a2 : Nat → Int32} {a3 : Nat → Int32} {a4 : Nat → Int32} {a5 : Nat → Int32} {a6 : Nat → Int32} {a7 : Nat → Int32} {a8 : Nat → Int32} {a9 : Nat → Int32} {postb : Int32 → Bool} (qh_post : ∀ (y0 : Int32), postb y0 = true → post y0) : ∀ (n : Nat) (x3 : Int32) (x4 : Int32), qb_wX_forwardUpTo_12 postb x2 f0_vertexCount f0_lineLength f0_nextLength a1 a2 a3 a4 a5 a6 a7 a8 a9 n x3 x4 = true → wX_forwardUpTo_12 post x2 f0_vertexCount f0_lineLength f0_nextLength a1 a2 a3 a4 a5 a6 a7 a8 a9 n x3 x4 := by
  intro n
  induction n with
  | zero =>
    intro _ _
    exact fun h => absurd h Bool.false_ne_true
  | succ n ih =>
    intro x3 x4
    refine qs_if ?_ ?_
    · exact qh_post _
    · refine qs_vp ?_
      refine qs_v (fun x5_6 => ?_)
      refine qs_if ?_ ?_
      · refine qs_v (fun x4_8 => ?_)
        exact ih _ _
      · refine qs_vp ?_
        refine qs_f ?_
        refine qs_wpX_targetsOf ?_
        intro r_10
        refine qs_wpX_leadersOf ?_
        intro r_11
        refine qs_v (fun x3_12 => ?_)
        refine qs_v (fun x4_13 => ?_)
        exact ih _ _
noncomputable def qb_wpX_forwardUpTo (post : Int32 → Bool) (u : St2) (p0 : Int32) (p1 : Int32) : Bool := match u with
  | (f0_vertexCount, f0_lineLength, f0_nextLength, a1, a2, a3, a4, a5, a6, a7, a8, a9) => (qb_v ((1 : Int32) <<< (p0 &&& 31)) (fun x3_1 => (qb_in p0 16 && (qb_v (a5 p0.toNatClampNeg) (fun x4_3 => (qb_wX_forwardUpTo_12 post p1 f0_vertexCount f0_lineLength f0_nextLength a1 a2 a3 a4 a5 a6 a7 a8 a9 20 x3_1 x4_3))))))
theorem qs_wpX_forwardUpTo {post : Int32 → Prop} {u : St2} {p0 : Int32} {p1 : Int32} {postb : Int32 → Bool} (qh_post : ∀ (y0 : Int32), postb y0 = true → post y0) : qb_wpX_forwardUpTo postb u p0 p1 = true → wpX_forwardUpTo post u p0 p1 := by
  obtain ⟨f0_vertexCount, f0_lineLength, f0_nextLength, a1, a2, a3, a4, a5, a6, a7, a8, a9⟩ := u
  unfold qb_wpX_forwardUpTo wpX_forwardUpTo
  refine qs_v (fun x3_1 => ?_)
  refine qs_vp ?_
  refine qs_v (fun x4_3 => ?_)
  refine qs_ex 20 ?_
  exact qs_wX_forwardUpTo_12 qh_post _ _ _
noncomputable def qb_wpX_reaches (post : Int32 → Bool) (u : St2) (p0 : Int32) (p1 : Int32) : Bool := match u with
  | (f0_vertexCount, f0_lineLength, f0_nextLength, a1, a2, a3, a4, a5, a6, a7, a8, a9) => (qb_wpX_isVertex (fun r_1 => (if r_1 = 0 then (post 0) else (qb_wpX_isVertex (fun r_3 => (if r_3 = 0 then (post 0) else (qb_in p0 16 && (qb_v (a3 p0.toNatClampNeg) (fun x3_6 => (qb_in p1 16 && (qb_v (a3 p1.toNatClampNeg) (fun x4_8 => (qb_in x3_6 16 && (qb_in x4_8 16 && (if (a5 x3_6.toNatClampNeg) ≤ (a5 x4_8.toNatClampNeg) then (qb_in x4_8 16 && (qb_v (a5 x4_8.toNatClampNeg) (fun qz1 => (qb_wpX_forwardUpTo (fun r_13 => (if ((r_13 >>> (x4_8 &&& 31)) &&& 1) = 0 then (post 0) else (post 1))) (f0_vertexCount, f0_lineLength, f0_nextLength, a1, a2, a3, a4, a5, a6, a7, a8, a9) x3_6 qz1)))) else (post 0)))))))))))) (f0_vertexCount, f0_lineLength, f0_nextLength, a1, a2, a3, a4, a5, a6, a7, a8, a9) p1))) (f0_vertexCount, f0_lineLength, f0_nextLength, a1, a2, a3, a4, a5, a6, a7, a8, a9) p0)
theorem qs_wpX_reaches {post : Int32 → Prop} {u : St2} {p0 : Int32} {p1 : Int32} {postb : Int32 → Bool} (qh_post : ∀ (y0 : Int32), postb y0 = true → post y0) : qb_wpX_reaches postb u p0 p1 = true → wpX_reaches post u p0 p1 := by
  obtain ⟨f0_vertexCount, f0_lineLength, f0_nextLength, a1, a2, a3, a4, a5, a6, a7, a8, a9⟩ := u
  unfold qb_wpX_reaches wpX_reaches
  refine qs_wpX_isVertex ?_
  intro r_1
  refine qs_if ?_ ?_
  · exact qh_post _
  · refine qs_wpX_isVertex ?_
    intro r_3
    refine qs_if ?_ ?_
    · exact qh_post _
    · refine qs_vp ?_
      refine qs_v (fun x3_6 => ?_)
      refine qs_vp ?_
      refine qs_v (fun x4_8 => ?_)
      refine qs_vp ?_
      refine qs_vp ?_
      refine qs_if ?_ ?_
      · refine qs_vp ?_
        refine qs_f ?_
        refine qs_wpX_forwardUpTo ?_
        intro r_13
        refine qs_if ?_ ?_
        · exact qh_post _
        · exact qh_post _
      · exact qh_post _
noncomputable def qb_wX_cycle_37 (post : Int32 → Bool) (x1 : Int32) (x2 : Int32) (f0_vertexCount : Int32) (f0_lineLength : Int32) (f0_nextLength : Int32) (a1 : Nat → Int32) (a2 : Nat → Int32) (a3 : Nat → Int32) (a4 : Nat → Int32) (a5 : Nat → Int32) (a6 : Nat → Int32) (a7 : Nat → Int32) (a8 : Nat → Int32) (a9 : Nat → Int32) : Nat → Int32 → Int32 → Int32 → Bool := fun n => @Nat.rec (fun _ => Int32 → Int32 → Int32 → Bool) (fun _ _ _ => false) (fun _ qih x3 x4 x5 => (if 16 < x5 then (post (-2)) else (if x3 = 0 then (post (-2)) else (if ((x4 >>> (x1 &&& 31)) &&& 1) = 0 then (qb_wpX_targetsOf (fun r_11 => (qb_v ((r_11 &&& x2) &&& (x4 ^^^ (-1))) (fun x3_12 => (qb_v (x4 ||| x3_12) (fun x4_13 => (qb_v (x5 + 1) (fun x5_14 => (qih x3_12 x4_13 x5_14)))))))) (f0_vertexCount, f0_lineLength, f0_nextLength, a1, a2, a3, a4, a5, a6, a7, a8, a9) x3) else (post x5))))) n
theorem qs_wX_cycle_37 {post : Int32 → Prop} {x1 : Int32} {x2 : Int32} {f0_vertexCount : Int32} {f0_lineLength : Int32} {f0_nextLength : Int32} {a1 : Nat → Int32} {a2 : Nat → Int32} {a3 : Nat → Int32} {a4 : Nat → Int32} {a5 : Nat → Int32} {a6 : Nat → Int32} {a7 : Nat → Int32} {a8 : Nat → Int32} {a9 : Nat → Int32} {postb : Int32 → Bool} (qh_post : ∀ (y0 : Int32), postb y0 = true → post y0) : ∀ (n : Nat) (x3 : Int32) (x4 : Int32) (x5 : Int32), qb_wX_cycle_37 postb x1 x2 f0_vertexCount f0_lineLength f0_nextLength a1 a2 a3 a4 a5 a6 a7 a8 a9 n x3 x4 x5 = true → wX_cycle_37 post x1 x2 f0_vertexCount f0_lineLength f0_nextLength a1 a2 a3 a4 a5 a6 a7 a8 a9 n x3 x4 x5 := by
  intro n
  induction n with
  | zero =>
    intro _ _ _
    exact fun h => absurd h Bool.false_ne_true
  | succ n ih =>
    intro x3 x4 x5
    refine qs_if ?_ ?_
    · exact qh_post _
    · refine qs_if ?_ ?_
      · exact qh_post _
      · refine qs_if ?_ ?_
        · refine qs_wpX_targetsOf ?_
          intro r_11
          refine qs_v (fun x3_12 => ?_)
          refine qs_v (fun x4_13 => ?_)
          refine qs_v (fun x5_14 => ?_)
          exact ih _ _ _
        · exact qh_post _
noncomputable def qb_wpX_cycle (post : Int32 → Bool) (u : St2) (p0 : Int32) : Bool := match u with
  | (f0_vertexCount, f0_lineLength, f0_nextLength, a1, a2, a3, a4, a5, a6, a7, a8, a9) => (qb_wpX_isVertex (fun r_1 => (if r_1 = 0 then (post (-1)) else (qb_in p0 16 && (qb_in (a3 p0.toNatClampNeg) 16 && (qb_v (a4 (a3 p0.toNatClampNeg).toNatClampNeg) (fun x2_5 => (qb_in p0 16 && (qb_v ((a1 p0.toNatClampNeg) &&& x2_5) (fun x3_7 => (qb_wX_cycle_37 post p0 x2_5 f0_vertexCount f0_lineLength f0_nextLength a1 a2 a3 a4 a5 a6 a7 a8 a9 20 x3_7 x3_7 1)))))))))) (f0_vertexCount, f0_lineLength, f0_nextLength, a1, a2, a3, a4, a5, a6, a7, a8, a9) p0)
theorem qs_wpX_cycle {post : Int32 → Prop} {u : St2} {p0 : Int32} {postb : Int32 → Bool} (qh_post : ∀ (y0 : Int32), postb y0 = true → post y0) : qb_wpX_cycle postb u p0 = true → wpX_cycle post u p0 := by
  obtain ⟨f0_vertexCount, f0_lineLength, f0_nextLength, a1, a2, a3, a4, a5, a6, a7, a8, a9⟩ := u
  unfold qb_wpX_cycle wpX_cycle
  refine qs_wpX_isVertex ?_
  intro r_1
  refine qs_if ?_ ?_
  · exact qh_post _
  · refine qs_vp ?_
    refine qs_vp ?_
    refine qs_v (fun x2_5 => ?_)
    refine qs_vp ?_
    refine qs_v (fun x3_7 => ?_)
    refine qs_ex 20 ?_
    exact qs_wX_cycle_37 qh_post _ _ _ _
noncomputable def qb_wpX_leader (post : Int32 → Bool) (u : St2) (p0 : Int32) : Bool := match u with
  | (f0_vertexCount, f0_lineLength, f0_nextLength, a1, a2, a3, a4, a5, a6, a7, a8, a9) => (qb_wpX_isVertex (fun r_1 => (if r_1 = 0 then (post (-1)) else (qb_in p0 16 && (qb_v (a3 p0.toNatClampNeg) (fun qz1 => (post qz1)))))) (f0_vertexCount, f0_lineLength, f0_nextLength, a1, a2, a3, a4, a5, a6, a7, a8, a9) p0)
theorem qs_wpX_leader {post : Int32 → Prop} {u : St2} {p0 : Int32} {postb : Int32 → Bool} (qh_post : ∀ (y0 : Int32), postb y0 = true → post y0) : qb_wpX_leader postb u p0 = true → wpX_leader post u p0 := by
  obtain ⟨f0_vertexCount, f0_lineLength, f0_nextLength, a1, a2, a3, a4, a5, a6, a7, a8, a9⟩ := u
  unfold qb_wpX_leader wpX_leader
  refine qs_wpX_isVertex ?_
  intro r_1
  refine qs_if ?_ ?_
  · exact qh_post _
  · refine qs_vp ?_
    refine qs_f ?_
    exact qh_post _
noncomputable def qb_wpX_componentSize (post : Int32 → Bool) (u : St2) (p0 : Int32) : Bool := match u with
  | (f0_vertexCount, f0_lineLength, f0_nextLength, a1, a2, a3, a4, a5, a6, a7, a8, a9) => (qb_wpX_isVertex (fun r_1 => (if r_1 = 0 then (post (-1)) else (qb_in p0 16 && (qb_v (a3 p0.toNatClampNeg) (fun x2_4 => (qb_in x2_4 16 && (qb_v (a4 x2_4.toNatClampNeg) (fun qz1 => (qb_wpX_bitsIn (fun r_6 => (post r_6)) (f0_vertexCount, f0_lineLength, f0_nextLength, a1, a2, a3, a4, a5, a6, a7, a8, a9) qz1))))))))) (f0_vertexCount, f0_lineLength, f0_nextLength, a1, a2, a3, a4, a5, a6, a7, a8, a9) p0)
theorem qs_wpX_componentSize {post : Int32 → Prop} {u : St2} {p0 : Int32} {postb : Int32 → Bool} (qh_post : ∀ (y0 : Int32), postb y0 = true → post y0) : qb_wpX_componentSize postb u p0 = true → wpX_componentSize post u p0 := by
  obtain ⟨f0_vertexCount, f0_lineLength, f0_nextLength, a1, a2, a3, a4, a5, a6, a7, a8, a9⟩ := u
  unfold qb_wpX_componentSize wpX_componentSize
  refine qs_wpX_isVertex ?_
  intro r_1
  refine qs_if ?_ ?_
  · exact qh_post _
  · refine qs_vp ?_
    refine qs_v (fun x2_4 => ?_)
    refine qs_vp ?_
    refine qs_f ?_
    refine qs_wpX_bitsIn ?_
    intro r_6
    exact qh_post _
end
section
noncomputable def qb_wX_adoptLine_10 (post : St2 → Bool) (f0_vertexCount : Int32) (f0_lineLength : Int32) (f0_nextLength : Int32) : Nat → Int32 → (Nat → Int32) → (Nat → Int32) → (Nat → Int32) → (Nat → Int32) → (Nat → Int32) → (Nat → Int32) → (Nat → Int32) → (Nat → Int32) → (Nat → Int32) → Bool := fun n => @Nat.rec (fun _ => Int32 → (Nat → Int32) → (Nat → Int32) → (Nat → Int32) → (Nat → Int32) → (Nat → Int32) → (Nat → Int32) → (Nat → Int32) → (Nat → Int32) → (Nat → Int32) → Bool) (fun _ _ _ _ _ _ _ _ _ _ => false) (fun _ qih x1 a1 a2 a3 a4 a5 a6 a7 a8 a9 => (if f0_lineLength ≤ x1 then (post (f0_vertexCount, f0_lineLength, f0_nextLength, a1, a2, a3, a4, a5, a6, a7, a8, a9)) else (qb_in x1 16 && (qb_in x1 16 && (qb_a a6 (x1.toNatClampNeg) ((a7 x1.toNatClampNeg).toInt8.toInt32) (fun a6_4 => (qb_in x1 16 && (qb_in (a6_4 x1.toNatClampNeg) 16 && (qb_a a5 ((a6_4 x1.toNatClampNeg).toNatClampNeg) (x1.toInt8.toInt32) (fun a5_7 => (qb_v (x1 + 1) (fun x1_8 => (qih x1_8 a1 a2 a3 a4 a5_7 a6_4 a7 a8 a9))))))))))))) n
theorem qs_wX_adoptLine_10 {post : St2 → Prop} {f0_vertexCount : Int32} {f0_lineLength : Int32} {f0_nextLength : Int32} {postb : St2 → Bool} (qh_post : ∀ (y0 : St2), postb y0 = true → post y0) : ∀ (n : Nat) (x1 : Int32) (a1 : (Nat → Int32)) (a2 : (Nat → Int32)) (a3 : (Nat → Int32)) (a4 : (Nat → Int32)) (a5 : (Nat → Int32)) (a6 : (Nat → Int32)) (a7 : (Nat → Int32)) (a8 : (Nat → Int32)) (a9 : (Nat → Int32)), qb_wX_adoptLine_10 postb f0_vertexCount f0_lineLength f0_nextLength n x1 a1 a2 a3 a4 a5 a6 a7 a8 a9 = true → wX_adoptLine_10 post f0_vertexCount f0_lineLength f0_nextLength n x1 a1 a2 a3 a4 a5 a6 a7 a8 a9 := by
  intro n
  induction n with
  | zero =>
    intro _ _ _ _ _ _ _ _ _ _
    exact fun h => absurd h Bool.false_ne_true
  | succ n ih =>
    intro x1 a1 a2 a3 a4 a5 a6 a7 a8 a9
    refine qs_if ?_ ?_
    · exact qh_post _
    · refine qs_vp ?_
      refine qs_vp ?_
      refine qs_a (fun a6_4 => ?_)
      refine qs_vp ?_
      refine qs_vp ?_
      refine qs_a (fun a5_7 => ?_)
      refine qs_v (fun x1_8 => ?_)
      exact ih _ _ _ _ _ _ _ _ _ _
noncomputable def qb_wpX_adoptLine (post : St2 → Bool) (u : St2) : Bool := match u with
  | (f0_vertexCount, f0_lineLength, f0_nextLength, a1, a2, a3, a4, a5, a6, a7, a8, a9) => (qb_wX_adoptLine_10 post f0_vertexCount f0_nextLength f0_nextLength 20 0 a1 a2 a3 a4 a5 a6 a7 a8 a9)
theorem qs_wpX_adoptLine {post : St2 → Prop} {u : St2} {postb : St2 → Bool} (qh_post : ∀ (y0 : St2), postb y0 = true → post y0) : qb_wpX_adoptLine postb u = true → wpX_adoptLine post u := by
  obtain ⟨f0_vertexCount, f0_lineLength, f0_nextLength, a1, a2, a3, a4, a5, a6, a7, a8, a9⟩ := u
  unfold qb_wpX_adoptLine wpX_adoptLine
  refine qs_ex 20 ?_
  exact qs_wX_adoptLine_10 qh_post _ _ _ _ _ _ _ _ _ _ _
noncomputable def qb_wpX_append (post : St2 → Bool) (u : St2) (p0 : Int32) : Bool := match u with
  | (f0_vertexCount, f0_lineLength, f0_nextLength, a1, a2, a3, a4, a5, a6, a7, a8, a9) => (qb_in f0_nextLength 16 && (qb_a a7 (f0_nextLength.toNatClampNeg) (p0.toInt8.toInt32) (fun a7_2 => (qb_v (f0_nextLength + 1) (fun f_3 => (post (f0_vertexCount, f0_lineLength, f_3, a1, a2, a3, a4, a5, a6, a7_2, a8, a9)))))))
theorem qs_wpX_append {post : St2 → Prop} {u : St2} {p0 : Int32} {postb : St2 → Bool} (qh_post : ∀ (y0 : St2), postb y0 = true → post y0) : qb_wpX_append postb u p0 = true → wpX_append post u p0 := by
  obtain ⟨f0_vertexCount, f0_lineLength, f0_nextLength, a1, a2, a3, a4, a5, a6, a7, a8, a9⟩ := u
  unfold qb_wpX_append wpX_append
  refine qs_vp ?_
  refine qs_a (fun a7_2 => ?_)
  refine qs_v (fun f_3 => ?_)
  exact qh_post _
noncomputable def qb_wX_lowest_2 (post : Int32 → Bool) (x1 : Int32) (f0_vertexCount : Int32) (f0_lineLength : Int32) (f0_nextLength : Int32) (a1 : Nat → Int32) (a2 : Nat → Int32) (a3 : Nat → Int32) (a4 : Nat → Int32) (a5 : Nat → Int32) (a6 : Nat → Int32) (a7 : Nat → Int32) (a8 : Nat → Int32) (a9 : Nat → Int32) : Nat → Int32 → Bool := fun n => @Nat.rec (fun _ => Int32 → Bool) (fun _ => false) (fun _ qih x2 => (if 15 ≤ x2 then (post x2) else (if ((x1 >>> (x2 &&& 31)) &&& 1) = 0 then (qb_v (x2 + 1) (fun x2_3 => (qih x2_3))) else (post x2)))) n
theorem qs_wX_lowest_2 {post : Int32 → Prop} {x1 : Int32} {f0_vertexCount : Int32} {f0_lineLength : Int32} {f0_nextLength : Int32} {a1 : Nat → Int32} {a2 : Nat → Int32} {a3 : Nat → Int32} {a4 : Nat → Int32} {a5 : Nat → Int32} {a6 : Nat → Int32} {a7 : Nat → Int32} {a8 : Nat → Int32} {a9 : Nat → Int32} {postb : Int32 → Bool} (qh_post : ∀ (y0 : Int32), postb y0 = true → post y0) : ∀ (n : Nat) (x2 : Int32), qb_wX_lowest_2 postb x1 f0_vertexCount f0_lineLength f0_nextLength a1 a2 a3 a4 a5 a6 a7 a8 a9 n x2 = true → wX_lowest_2 post x1 f0_vertexCount f0_lineLength f0_nextLength a1 a2 a3 a4 a5 a6 a7 a8 a9 n x2 := by
  intro n
  induction n with
  | zero =>
    intro _
    exact fun h => absurd h Bool.false_ne_true
  | succ n ih =>
    intro x2
    refine qs_if ?_ ?_
    · exact qh_post _
    · refine qs_if ?_ ?_
      · refine qs_v (fun x2_3 => ?_)
        exact ih _
      · exact qh_post _
noncomputable def qb_wpX_lowest (post : Int32 → Bool) (u : St2) (p0 : Int32) : Bool := match u with
  | (f0_vertexCount, f0_lineLength, f0_nextLength, a1, a2, a3, a4, a5, a6, a7, a8, a9) => (qb_wX_lowest_2 post p0 f0_vertexCount f0_lineLength f0_nextLength a1 a2 a3 a4 a5 a6 a7 a8 a9 20 0)
theorem qs_wpX_lowest {post : Int32 → Prop} {u : St2} {p0 : Int32} {postb : Int32 → Bool} (qh_post : ∀ (y0 : Int32), postb y0 = true → post y0) : qb_wpX_lowest postb u p0 = true → wpX_lowest post u p0 := by
  obtain ⟨f0_vertexCount, f0_lineLength, f0_nextLength, a1, a2, a3, a4, a5, a6, a7, a8, a9⟩ := u
  unfold qb_wpX_lowest wpX_lowest
  refine qs_ex 20 ?_
  exact qs_wX_lowest_2 qh_post _ _
noncomputable def qb_wX_claim_15 (post : Int32 → St2 → Bool) (x1 : Int32) (x2 : Int32) (f0_vertexCount : Int32) (f0_lineLength : Int32) (f0_nextLength : Int32) : Nat → Int32 → (Nat → Int32) → (Nat → Int32) → (Nat → Int32) → (Nat → Int32) → (Nat → Int32) → (Nat → Int32) → (Nat → Int32) → (Nat → Int32) → (Nat → Int32) → Bool := fun n => @Nat.rec (fun _ => Int32 → (Nat → Int32) → (Nat → Int32) → (Nat → Int32) → (Nat → Int32) → (Nat → Int32) → (Nat → Int32) → (Nat → Int32) → (Nat → Int32) → (Nat → Int32) → Bool) (fun _ _ _ _ _ _ _ _ _ _ => false) (fun _ qih x3 a1 a2 a3 a4 a5 a6 a7 a8 a9 => (if f0_vertexCount ≤ x3 then (post x2 (f0_vertexCount, f0_lineLength, f0_nextLength, a1, a2, a3, a4, a5, a6, a7, a8, a9)) else (if ((x1 >>> (x3 &&& 31)) &&& 1) = 0 then (qb_v (x3 + 1) (fun x3_6 => (qih x3_6 a1 a2 a3 a4 a5 a6 a7 a8 a9))) else (qb_in x3 16 && (qb_a a3 (x3.toNatClampNeg) (x2.toInt8.toInt32) (fun a3_8 => (qb_v (x3 + 1) (fun x3_9 => (qih x3_9 a1 a2 a3_8 a4 a5 a6 a7 a8 a9))))))))) n
theorem qs_wX_claim_15 {post : Int32 → St2 → Prop} {x1 : Int32} {x2 : Int32} {f0_vertexCount : Int32} {f0_lineLength : Int32} {f0_nextLength : Int32} {postb : Int32 → St2 → Bool} (qh_post : ∀ (y0 : Int32) (y1 : St2), postb y0 y1 = true → post y0 y1) : ∀ (n : Nat) (x3 : Int32) (a1 : (Nat → Int32)) (a2 : (Nat → Int32)) (a3 : (Nat → Int32)) (a4 : (Nat → Int32)) (a5 : (Nat → Int32)) (a6 : (Nat → Int32)) (a7 : (Nat → Int32)) (a8 : (Nat → Int32)) (a9 : (Nat → Int32)), qb_wX_claim_15 postb x1 x2 f0_vertexCount f0_lineLength f0_nextLength n x3 a1 a2 a3 a4 a5 a6 a7 a8 a9 = true → wX_claim_15 post x1 x2 f0_vertexCount f0_lineLength f0_nextLength n x3 a1 a2 a3 a4 a5 a6 a7 a8 a9 := by
  intro n
  induction n with
  | zero =>
    intro _ _ _ _ _ _ _ _ _ _
    exact fun h => absurd h Bool.false_ne_true
  | succ n ih =>
    intro x3 a1 a2 a3 a4 a5 a6 a7 a8 a9
    refine qs_if ?_ ?_
    · exact qh_post _ _
    · refine qs_if ?_ ?_
      · refine qs_v (fun x3_6 => ?_)
        exact ih _ _ _ _ _ _ _ _ _ _
      · refine qs_vp ?_
        refine qs_a (fun a3_8 => ?_)
        refine qs_v (fun x3_9 => ?_)
        exact ih _ _ _ _ _ _ _ _ _ _
noncomputable def qb_wpX_claim (post : Int32 → St2 → Bool) (u : St2) (p0 : Int32) : Bool := match u with
  | (f0_vertexCount, f0_lineLength, f0_nextLength, a1, a2, a3, a4, a5, a6, a7, a8, a9) => (qb_wpX_lowest (fun r_1 => (qb_in r_1 16 && (qb_a a4 (r_1.toNatClampNeg) (p0) (fun a4_3 => (qb_wX_claim_15 post p0 r_1 f0_vertexCount f0_lineLength f0_nextLength 20 0 a1 a2 a3 a4_3 a5 a6 a7 a8 a9))))) (f0_vertexCount, f0_lineLength, f0_nextLength, a1, a2, a3, a4, a5, a6, a7, a8, a9) p0)
theorem qs_wpX_claim {post : Int32 → St2 → Prop} {u : St2} {p0 : Int32} {postb : Int32 → St2 → Bool} (qh_post : ∀ (y0 : Int32) (y1 : St2), postb y0 y1 = true → post y0 y1) : qb_wpX_claim postb u p0 = true → wpX_claim post u p0 := by
  obtain ⟨f0_vertexCount, f0_lineLength, f0_nextLength, a1, a2, a3, a4, a5, a6, a7, a8, a9⟩ := u
  unfold qb_wpX_claim wpX_claim
  refine qs_wpX_lowest ?_
  intro r_1
  refine qs_vp ?_
  refine qs_a (fun a4_3 => ?_)
  refine qs_ex 20 ?_
  exact qs_wX_claim_15 qh_post _ _ _ _ _ _ _ _ _ _ _
noncomputable def qb_wX_melt_4 (post : Int32 → St2 → Bool) (x1 : Int32) (f0_vertexCount : Int32) (f0_lineLength : Int32) (f0_nextLength : Int32) : Nat → Int32 → Int32 → (Nat → Int32) → (Nat → Int32) → (Nat → Int32) → (Nat → Int32) → (Nat → Int32) → (Nat → Int32) → (Nat → Int32) → (Nat → Int32) → (Nat → Int32) → Bool := fun n => @Nat.rec (fun _ => Int32 → Int32 → (Nat → Int32) → (Nat → Int32) → (Nat → Int32) → (Nat → Int32) → (Nat → Int32) → (Nat → Int32) → (Nat → Int32) → (Nat → Int32) → (Nat → Int32) → Bool) (fun _ _ _ _ _ _ _ _ _ _ _ => false) (fun _ qih x2 x3 a1 a2 a3 a4 a5 a6 a7 a8 a9 => (if f0_vertexCount ≤ x3 then (qb_wpX_claim (fun r_2 u => match u with | (f0_vertexCount_3, f0_lineLength_4, f0_nextLength_5, am471_8, am472_11, am473_14, am474_17, am475_20, am476_23, am477_26, am478_29, am479_32) => (post r_2 (f0_vertexCount_3, f0_lineLength_4, f0_nextLength_5, am471_8, am472_11, am473_14, am474_17, am475_20, am476_23, am477_26, am478_29, am479_32))) (f0_vertexCount, f0_lineLength, f0_nextLength, a1, a2, a3, a4, a5, a6, a7, a8, a9) x2) else (if ((x1 >>> (x3 &&& 31)) &&& 1) = 0 then (qb_v (x3 + 1) (fun x3_39 => (qih x2 x3_39 a1 a2 a3 a4 a5 a6 a7 a8 a9))) else (qb_in x3 16 && (qb_v (x2 ||| (a4 x3.toNatClampNeg)) (fun x2_35 => (qb_in x3 16 && (qb_a a4 (x3.toNatClampNeg) (0) (fun a4_37 => (qb_v (x3 + 1) (fun x3_38 => (qih x2_35 x3_38 a1 a2 a3 a4_37 a5 a6 a7 a8 a9)))))))))))) n
theorem qs_wX_melt_4 {post : Int32 → St2 → Prop} {x1 : Int32} {f0_vertexCount : Int32} {f0_lineLength : Int32} {f0_nextLength : Int32} {postb : Int32 → St2 → Bool} (qh_post : ∀ (y0 : Int32) (y1 : St2), postb y0 y1 = true → post y0 y1) : ∀ (n : Nat) (x2 : Int32) (x3 : Int32) (a1 : (Nat → Int32)) (a2 : (Nat → Int32)) (a3 : (Nat → Int32)) (a4 : (Nat → Int32)) (a5 : (Nat → Int32)) (a6 : (Nat → Int32)) (a7 : (Nat → Int32)) (a8 : (Nat → Int32)) (a9 : (Nat → Int32)), qb_wX_melt_4 postb x1 f0_vertexCount f0_lineLength f0_nextLength n x2 x3 a1 a2 a3 a4 a5 a6 a7 a8 a9 = true → wX_melt_4 post x1 f0_vertexCount f0_lineLength f0_nextLength n x2 x3 a1 a2 a3 a4 a5 a6 a7 a8 a9 := by
  intro n
  induction n with
  | zero =>
    intro _ _ _ _ _ _ _ _ _ _ _
    exact fun h => absurd h Bool.false_ne_true
  | succ n ih =>
    intro x2 x3 a1 a2 a3 a4 a5 a6 a7 a8 a9
    refine qs_if ?_ ?_
    · refine qs_wpX_claim ?_
      rintro r_2 ⟨f0_vertexCount_3, f0_lineLength_4, f0_nextLength_5, am471_8, am472_11, am473_14, am474_17, am475_20, am476_23, am477_26, am478_29, am479_32⟩
      exact qh_post _ _
    · refine qs_if ?_ ?_
      · refine qs_v (fun x3_39 => ?_)
        exact ih _ _ _ _ _ _ _ _ _ _ _
      · refine qs_vp ?_
        refine qs_v (fun x2_35 => ?_)
        refine qs_vp ?_
        refine qs_a (fun a4_37 => ?_)
        refine qs_v (fun x3_38 => ?_)
        exact ih _ _ _ _ _ _ _ _ _ _ _
noncomputable def qb_wpX_melt (post : Int32 → St2 → Bool) (u : St2) (p0 : Int32) : Bool := match u with
  | (f0_vertexCount, f0_lineLength, f0_nextLength, a1, a2, a3, a4, a5, a6, a7, a8, a9) => (qb_wX_melt_4 post p0 f0_vertexCount f0_lineLength f0_nextLength 20 0 0 a1 a2 a3 a4 a5 a6 a7 a8 a9)
theorem qs_wpX_melt {post : Int32 → St2 → Prop} {u : St2} {p0 : Int32} {postb : Int32 → St2 → Bool} (qh_post : ∀ (y0 : Int32) (y1 : St2), postb y0 y1 = true → post y0 y1) : qb_wpX_melt postb u p0 = true → wpX_melt post u p0 := by
  obtain ⟨f0_vertexCount, f0_lineLength, f0_nextLength, a1, a2, a3, a4, a5, a6, a7, a8, a9⟩ := u
  unfold qb_wpX_melt wpX_melt
  refine qs_ex 20 ?_
  exact qs_wX_melt_4 qh_post _ _ _ _ _ _ _ _ _ _ _ _
noncomputable def qb_wX_sourcesOf_4 (post : Int32 → Bool) (x1 : Int32) (f0_vertexCount : Int32) (f0_lineLength : Int32) (f0_nextLength : Int32) (a1 : Nat → Int32) (a2 : Nat → Int32) (a3 : Nat → Int32) (a4 : Nat → Int32) (a5 : Nat → Int32) (a6 : Nat → Int32) (a7 : Nat → Int32) (a8 : Nat → Int32) (a9 : Nat → Int32) : Nat → Int32 → Int32 → Bool := fun n => @Nat.rec (fun _ => Int32 → Int32 → Bool) (fun _ _ => false) (fun _ qih x2 x3 => (if f0_vertexCount ≤ x3 then (post x2) else (if ((x1 >>> (x3 &&& 31)) &&& 1) = 0 then (qb_v (x3 + 1) (fun x3_3 => (qih x2 x3_3))) else (qb_in x3 16 && (qb_v (x2 ||| (a2 x3.toNatClampNeg)) (fun x2_5 => (qb_v (x3 + 1) (fun x3_6 => (qih x2_5 x3_6))))))))) n
theorem qs_wX_sourcesOf_4 {post : Int32 → Prop} {x1 : Int32} {f0_vertexCount : Int32} {f0_lineLength : Int32} {f0_nextLength : Int32} {a1 : Nat → Int32} {a2 : Nat → Int32} {a3 : Nat → Int32} {a4 : Nat → Int32} {a5 : Nat → Int32} {a6 : Nat → Int32} {a7 : Nat → Int32} {a8 : Nat → Int32} {a9 : Nat → Int32} {postb : Int32 → Bool} (qh_post : ∀ (y0 : Int32), postb y0 = true → post y0) : ∀ (n : Nat) (x2 : Int32) (x3 : Int32), qb_wX_sourcesOf_4 postb x1 f0_vertexCount f0_lineLength f0_nextLength a1 a2 a3 a4 a5 a6 a7 a8 a9 n x2 x3 = true → wX_sourcesOf_4 post x1 f0_vertexCount f0_lineLength f0_nextLength a1 a2 a3 a4 a5 a6 a7 a8 a9 n x2 x3 := by
  intro n
  induction n with
  | zero =>
    intro _ _
    exact fun h => absurd h Bool.false_ne_true
  | succ n ih =>
    intro x2 x3
    refine qs_if ?_ ?_
    · exact qh_post _
    · refine qs_if ?_ ?_
      · refine qs_v (fun x3_3 => ?_)
        exact ih _ _
      · refine qs_vp ?_
        refine qs_v (fun x2_5 => ?_)
        refine qs_v (fun x3_6 => ?_)
        exact ih _ _
noncomputable def qb_wpX_sourcesOf (post : Int32 → Bool) (u : St2) (p0 : Int32) : Bool := match u with
  | (f0_vertexCount, f0_lineLength, f0_nextLength, a1, a2, a3, a4, a5, a6, a7, a8, a9) => (qb_wX_sourcesOf_4 post p0 f0_vertexCount f0_lineLength f0_nextLength a1 a2 a3 a4 a5 a6 a7 a8 a9 20 0 0)
theorem qs_wpX_sourcesOf {post : Int32 → Prop} {u : St2} {p0 : Int32} {postb : Int32 → Bool} (qh_post : ∀ (y0 : Int32), postb y0 = true → post y0) : qb_wpX_sourcesOf postb u p0 = true → wpX_sourcesOf post u p0 := by
  obtain ⟨f0_vertexCount, f0_lineLength, f0_nextLength, a1, a2, a3, a4, a5, a6, a7, a8, a9⟩ := u
  unfold qb_wpX_sourcesOf wpX_sourcesOf
  refine qs_ex 20 ?_
  exact qs_wX_sourcesOf_4 qh_post _ _ _
noncomputable def qb_wX_backwardDownTo_12 (post : Int32 → Bool) (x2 : Int32) (f0_vertexCount : Int32) (f0_lineLength : Int32) (f0_nextLength : Int32) (a1 : Nat → Int32) (a2 : Nat → Int32) (a3 : Nat → Int32) (a4 : Nat → Int32) (a5 : Nat → Int32) (a6 : Nat → Int32) (a7 : Nat → Int32) (a8 : Nat → Int32) (a9 : Nat → Int32) : Nat → Int32 → Int32 → Bool := fun n => @Nat.rec (fun _ => Int32 → Int32 → Bool) (fun _ _ => false) (fun _ qih x3 x4 => (if x4 < x2 then (post x3) else (qb_in x4 16 && (qb_v (a6 x4.toNatClampNeg) (fun x5_6 => (if ((x3 >>> (x5_6 &&& 31)) &&& 1) = 0 then (qb_v (x4 + (-1)) (fun x4_8 => (qih x3 x4_8))) else (qb_in x5_6 16 && (qb_v (a4 x5_6.toNatClampNeg) (fun qz1 => (qb_wpX_sourcesOf (fun r_10 => (qb_wpX_leadersOf (fun r_11 => (qb_v (x3 ||| r_11) (fun x3_12 => (qb_v (x4 + (-1)) (fun x4_13 => (qih x3_12 x4_13)))))) (f0_vertexCount, f0_lineLength, f0_nextLength, a1, a2, a3, a4, a5, a6, a7, a8, a9) r_10)) (f0_vertexCount, f0_lineLength, f0_nextLength, a1, a2, a3, a4, a5, a6, a7, a8, a9) qz1)))))))))) n
theorem qs_wX_backwardDownTo_12 {post : Int32 → Prop} {x2 : Int32} {f0_vertexCount : Int32} {f0_lineLength : Int32} {f0_nextLength : Int32} {a1 : Nat → Int32} {a2 : Nat → Int32} {a3 : Nat → Int32} {a4 : Nat → Int32} {a5 : Nat → Int32} {a6 : Nat → Int32} {a7 : Nat → Int32} {a8 : Nat → Int32} {a9 : Nat → Int32} {postb : Int32 → Bool} (qh_post : ∀ (y0 : Int32), postb y0 = true → post y0) : ∀ (n : Nat) (x3 : Int32) (x4 : Int32), qb_wX_backwardDownTo_12 postb x2 f0_vertexCount f0_lineLength f0_nextLength a1 a2 a3 a4 a5 a6 a7 a8 a9 n x3 x4 = true → wX_backwardDownTo_12 post x2 f0_vertexCount f0_lineLength f0_nextLength a1 a2 a3 a4 a5 a6 a7 a8 a9 n x3 x4 := by
  intro n
  induction n with
  | zero =>
    intro _ _
    exact fun h => absurd h Bool.false_ne_true
  | succ n ih =>
    intro x3 x4
    refine qs_if ?_ ?_
    · exact qh_post _
    · refine qs_vp ?_
      refine qs_v (fun x5_6 => ?_)
      refine qs_if ?_ ?_
      · refine qs_v (fun x4_8 => ?_)
        exact ih _ _
      · refine qs_vp ?_
        refine qs_f ?_
        refine qs_wpX_sourcesOf ?_
        intro r_10
        refine qs_wpX_leadersOf ?_
        intro r_11
        refine qs_v (fun x3_12 => ?_)
        refine qs_v (fun x4_13 => ?_)
        exact ih _ _
noncomputable def qb_wpX_backwardDownTo (post : Int32 → Bool) (u : St2) (p0 : Int32) (p1 : Int32) : Bool := match u with
  | (f0_vertexCount, f0_lineLength, f0_nextLength, a1, a2, a3, a4, a5, a6, a7, a8, a9) => (qb_v ((1 : Int32) <<< (p0 &&& 31)) (fun x3_1 => (qb_in p0 16 && (qb_v (a5 p0.toNatClampNeg) (fun x4_3 => (qb_wX_backwardDownTo_12 post p1 f0_vertexCount f0_lineLength f0_nextLength a1 a2 a3 a4 a5 a6 a7 a8 a9 20 x3_1 x4_3))))))
theorem qs_wpX_backwardDownTo {post : Int32 → Prop} {u : St2} {p0 : Int32} {p1 : Int32} {postb : Int32 → Bool} (qh_post : ∀ (y0 : Int32), postb y0 = true → post y0) : qb_wpX_backwardDownTo postb u p0 p1 = true → wpX_backwardDownTo post u p0 p1 := by
  obtain ⟨f0_vertexCount, f0_lineLength, f0_nextLength, a1, a2, a3, a4, a5, a6, a7, a8, a9⟩ := u
  unfold qb_wpX_backwardDownTo wpX_backwardDownTo
  refine qs_v (fun x3_1 => ?_)
  refine qs_vp ?_
  refine qs_v (fun x4_3 => ?_)
  refine qs_ex 20 ?_
  exact qs_wX_backwardDownTo_12 qh_post _ _ _
noncomputable def qb_wX_leadersBetween_5 (post : Int32 → Bool) (x2 : Int32) (f0_vertexCount : Int32) (f0_lineLength : Int32) (f0_nextLength : Int32) (a1 : Nat → Int32) (a2 : Nat → Int32) (a3 : Nat → Int32) (a4 : Nat → Int32) (a5 : Nat → Int32) (a6 : Nat → Int32) (a7 : Nat → Int32) (a8 : Nat → Int32) (a9 : Nat → Int32) : Nat → Int32 → Int32 → Bool := fun n => @Nat.rec (fun _ => Int32 → Int32 → Bool) (fun _ _ => false) (fun _ qih x3 x4 => (if x2 < x4 then (post x3) else (qb_in x4 16 && (qb_v (x3 ||| ((1 : Int32) <<< ((a6 x4.toNatClampNeg) &&& 31))) (fun x3_3 => (qb_v (x4 + 1) (fun x4_4 => (qih x3_3 x4_4)))))))) n
theorem qs_wX_leadersBetween_5 {post : Int32 → Prop} {x2 : Int32} {f0_vertexCount : Int32} {f0_lineLength : Int32} {f0_nextLength : Int32} {a1 : Nat → Int32} {a2 : Nat → Int32} {a3 : Nat → Int32} {a4 : Nat → Int32} {a5 : Nat → Int32} {a6 : Nat → Int32} {a7 : Nat → Int32} {a8 : Nat → Int32} {a9 : Nat → Int32} {postb : Int32 → Bool} (qh_post : ∀ (y0 : Int32), postb y0 = true → post y0) : ∀ (n : Nat) (x3 : Int32) (x4 : Int32), qb_wX_leadersBetween_5 postb x2 f0_vertexCount f0_lineLength f0_nextLength a1 a2 a3 a4 a5 a6 a7 a8 a9 n x3 x4 = true → wX_leadersBetween_5 post x2 f0_vertexCount f0_lineLength f0_nextLength a1 a2 a3 a4 a5 a6 a7 a8 a9 n x3 x4 := by
  intro n
  induction n with
  | zero =>
    intro _ _
    exact fun h => absurd h Bool.false_ne_true
  | succ n ih =>
    intro x3 x4
    refine qs_if ?_ ?_
    · exact qh_post _
    · refine qs_vp ?_
      refine qs_v (fun x3_3 => ?_)
      refine qs_v (fun x4_4 => ?_)
      exact ih _ _
noncomputable def qb_wpX_leadersBetween (post : Int32 → Bool) (u : St2) (p0 : Int32) (p1 : Int32) : Bool := match u with
  | (f0_vertexCount, f0_lineLength, f0_nextLength, a1, a2, a3, a4, a5, a6, a7, a8, a9) => (qb_wX_leadersBetween_5 post p1 f0_vertexCount f0_lineLength f0_nextLength a1 a2 a3 a4 a5 a6 a7 a8 a9 20 0 p0)
theorem qs_wpX_leadersBetween {post : Int32 → Prop} {u : St2} {p0 : Int32} {p1 : Int32} {postb : Int32 → Bool} (qh_post : ∀ (y0 : Int32), postb y0 = true → post y0) : qb_wpX_leadersBetween postb u p0 p1 = true → wpX_leadersBetween post u p0 p1 := by
  obtain ⟨f0_vertexCount, f0_lineLength, f0_nextLength, a1, a2, a3, a4, a5, a6, a7, a8, a9⟩ := u
  unfold qb_wpX_leadersBetween wpX_leadersBetween
  refine qs_ex 20 ?_
  exact qs_wX_leadersBetween_5 qh_post _ _ _
noncomputable def qb_wX_repairLine_221 (post : Int32 → St2 → Bool) (x7 : Int32) : Nat → Int32 → Int32 → Int32 → Int32 → (Nat → Int32) → (Nat → Int32) → (Nat → Int32) → (Nat → Int32) → (Nat → Int32) → (Nat → Int32) → (Nat → Int32) → (Nat → Int32) → (Nat → Int32) → Bool := fun n => @Nat.rec (fun _ => Int32 → Int32 → Int32 → Int32 → (Nat → Int32) → (Nat → Int32) → (Nat → Int32) → (Nat → Int32) → (Nat → Int32) → (Nat → Int32) → (Nat → Int32) → (Nat → Int32) → (Nat → Int32) → Bool) (fun _ _ _ _ _ _ _ _ _ _ _ _ _ => false) (fun _ qih x8 f0_vertexCount f0_lineLength f0_nextLength a1 a2 a3 a4 a5 a6 a7 a8 a9 => (if f0_lineLength ≤ x8 then (qb_wpX_adoptLine (fun u => match u with | (f0_vertexCount_14, f0_lineLength_15, f0_nextLength_16, am2481_19, am2482_22, am2483_25, am2484_28, am2485_31, am2486_34, am2487_37, am2488_40, am2489_43) => (post x7 (f0_vertexCount_14, f0_lineLength_15, f0_nextLength_16, am2481_19, am2482_22, am2483_25, am2484_28, am2485_31, am2486_34, am2487_37, am2488_40, am2489_43))) (f0_vertexCount, f0_lineLength, f0_nextLength, a1, a2, a3, a4, a5, a6, a7, a8, a9)) else (qb_in x8 16 && (qb_v (a6 x8.toNatClampNeg) (fun qz1 => (qb_wpX_append (fun u => match u with | (f0_vertexCount_46, f0_lineLength_47, f0_nextLength_48, am2381_51, am2382_54, am2383_57, am2384_60, am2385_63, am2386_66, am2387_69, am2388_72, am2389_75) => (qb_v (x8 + 1) (fun x8_76 => (qih x8_76 f0_vertexCount_46 f0_lineLength_47 f0_nextLength_48 am2381_51 am2382_54 am2383_57 am2384_60 am2385_63 am2386_66 am2387_69 am2388_72 am2389_75)))) (f0_vertexCount, f0_lineLength, f0_nextLength, a1, a2, a3, a4, a5, a6, a7, a8, a9) qz1)))))) n
theorem qs_wX_repairLine_221 {post : Int32 → St2 → Prop} {x7 : Int32} {postb : Int32 → St2 → Bool} (qh_post : ∀ (y0 : Int32) (y1 : St2), postb y0 y1 = true → post y0 y1) : ∀ (n : Nat) (x8 : Int32) (f0_vertexCount : Int32) (f0_lineLength : Int32) (f0_nextLength : Int32) (a1 : (Nat → Int32)) (a2 : (Nat → Int32)) (a3 : (Nat → Int32)) (a4 : (Nat → Int32)) (a5 : (Nat → Int32)) (a6 : (Nat → Int32)) (a7 : (Nat → Int32)) (a8 : (Nat → Int32)) (a9 : (Nat → Int32)), qb_wX_repairLine_221 postb x7 n x8 f0_vertexCount f0_lineLength f0_nextLength a1 a2 a3 a4 a5 a6 a7 a8 a9 = true → wX_repairLine_221 post x7 n x8 f0_vertexCount f0_lineLength f0_nextLength a1 a2 a3 a4 a5 a6 a7 a8 a9 := by
  intro n
  induction n with
  | zero =>
    intro _ _ _ _ _ _ _ _ _ _ _ _ _
    exact fun h => absurd h Bool.false_ne_true
  | succ n ih =>
    intro x8 f0_vertexCount f0_lineLength f0_nextLength a1 a2 a3 a4 a5 a6 a7 a8 a9
    refine qs_if ?_ ?_
    · refine qs_wpX_adoptLine ?_
      rintro ⟨f0_vertexCount_14, f0_lineLength_15, f0_nextLength_16, am2481_19, am2482_22, am2483_25, am2484_28, am2485_31, am2486_34, am2487_37, am2488_40, am2489_43⟩
      exact qh_post _ _
    · refine qs_vp ?_
      refine qs_f ?_
      refine qs_wpX_append ?_
      rintro ⟨f0_vertexCount_46, f0_lineLength_47, f0_nextLength_48, am2381_51, am2382_54, am2383_57, am2384_60, am2385_63, am2386_66, am2387_69, am2388_72, am2389_75⟩
      refine qs_v (fun x8_76 => ?_)
      exact ih _ _ _ _ _ _ _ _ _ _ _ _ _
noncomputable def qb_wX_repairLine_167 (post : Int32 → St2 → Bool) (x4 : Int32) (x5 : Int32) (x6 : Int32) (x7 : Int32) : Nat → Int32 → Int32 → Int32 → Int32 → (Nat → Int32) → (Nat → Int32) → (Nat → Int32) → (Nat → Int32) → (Nat → Int32) → (Nat → Int32) → (Nat → Int32) → (Nat → Int32) → (Nat → Int32) → Bool := fun n => @Nat.rec (fun _ => Int32 → Int32 → Int32 → Int32 → (Nat → Int32) → (Nat → Int32) → (Nat → Int32) → (Nat → Int32) → (Nat → Int32) → (Nat → Int32) → (Nat → Int32) → (Nat → Int32) → (Nat → Int32) → Bool) (fun _ _ _ _ _ _ _ _ _ _ _ _ _ => false) (fun _ qih x8 f0_vertexCount f0_lineLength f0_nextLength a1 a2 a3 a4 a5 a6 a7 a8 a9 => (if x4 < x8 then (qb_v (x4 + 1) (fun x8_11 => (qb_wX_repairLine_221 post x7 20 x8_11 f0_vertexCount f0_lineLength f0_nextLength a1 a2 a3 a4 a5 a6 a7 a8 a9))) else (qb_v (x5 &&& (x6 ^^^ (-1))) (fun x9_77 => (qb_in x8 16 && (if ((x9_77 >>> ((a6 x8.toNatClampNeg) &&& 31)) &&& 1) = 0 then (qb_v (x8 + 1) (fun x8_80 => (qih x8_80 f0_vertexCount f0_lineLength f0_nextLength a1 a2 a3 a4 a5 a6 a7 a8 a9))) else (qb_in x8 16 && (qb_v (a6 x8.toNatClampNeg) (fun qz1 => (qb_wpX_append (fun u => match u with | (f0_vertexCount_83, f0_lineLength_84, f0_nextLength_85, am2061_88, am2062_91, am2063_94, am2064_97, am2065_100, am2066_103, am2067_106, am2068_109, am2069_112) => (qb_v (x8 + 1) (fun x8_113 => (qih x8_113 f0_vertexCount_83 f0_lineLength_84 f0_nextLength_85 am2061_88 am2062_91 am2063_94 am2064_97 am2065_100 am2066_103 am2067_106 am2068_109 am2069_112)))) (f0_vertexCount, f0_lineLength, f0_nextLength, a1, a2, a3, a4, a5, a6, a7, a8, a9) qz1)))))))))) n
theorem qs_wX_repairLine_167 {post : Int32 → St2 → Prop} {x4 : Int32} {x5 : Int32} {x6 : Int32} {x7 : Int32} {postb : Int32 → St2 → Bool} (qh_post : ∀ (y0 : Int32) (y1 : St2), postb y0 y1 = true → post y0 y1) : ∀ (n : Nat) (x8 : Int32) (f0_vertexCount : Int32) (f0_lineLength : Int32) (f0_nextLength : Int32) (a1 : (Nat → Int32)) (a2 : (Nat → Int32)) (a3 : (Nat → Int32)) (a4 : (Nat → Int32)) (a5 : (Nat → Int32)) (a6 : (Nat → Int32)) (a7 : (Nat → Int32)) (a8 : (Nat → Int32)) (a9 : (Nat → Int32)), qb_wX_repairLine_167 postb x4 x5 x6 x7 n x8 f0_vertexCount f0_lineLength f0_nextLength a1 a2 a3 a4 a5 a6 a7 a8 a9 = true → wX_repairLine_167 post x4 x5 x6 x7 n x8 f0_vertexCount f0_lineLength f0_nextLength a1 a2 a3 a4 a5 a6 a7 a8 a9 := by
  intro n
  induction n with
  | zero =>
    intro _ _ _ _ _ _ _ _ _ _ _ _ _
    exact fun h => absurd h Bool.false_ne_true
  | succ n ih =>
    intro x8 f0_vertexCount f0_lineLength f0_nextLength a1 a2 a3 a4 a5 a6 a7 a8 a9
    refine qs_if ?_ ?_
    · refine qs_v (fun x8_11 => ?_)
      refine qs_ex 20 ?_
      exact qs_wX_repairLine_221 qh_post _ _ _ _ _ _ _ _ _ _ _ _ _ _
    · refine qs_v (fun x9_77 => ?_)
      refine qs_vp ?_
      refine qs_if ?_ ?_
      · refine qs_v (fun x8_80 => ?_)
        exact ih _ _ _ _ _ _ _ _ _ _ _ _ _
      · refine qs_vp ?_
        refine qs_f ?_
        refine qs_wpX_append ?_
        rintro ⟨f0_vertexCount_83, f0_lineLength_84, f0_nextLength_85, am2061_88, am2062_91, am2063_94, am2064_97, am2065_100, am2066_103, am2067_106, am2068_109, am2069_112⟩
        refine qs_v (fun x8_113 => ?_)
        exact ih _ _ _ _ _ _ _ _ _ _ _ _ _
noncomputable def qb_wX_repairLine_93 (post : Int32 → St2 → Bool) (x3 : Int32) (x4 : Int32) (x5 : Int32) (x6 : Int32) : Nat → Int32 → Int32 → Int32 → Int32 → (Nat → Int32) → (Nat → Int32) → (Nat → Int32) → (Nat → Int32) → (Nat → Int32) → (Nat → Int32) → (Nat → Int32) → (Nat → Int32) → (Nat → Int32) → Bool := fun n => @Nat.rec (fun _ => Int32 → Int32 → Int32 → Int32 → (Nat → Int32) → (Nat → Int32) → (Nat → Int32) → (Nat → Int32) → (Nat → Int32) → (Nat → Int32) → (Nat → Int32) → (Nat → Int32) → (Nat → Int32) → Bool) (fun _ _ _ _ _ _ _ _ _ _ _ _ _ => false) (fun _ qih x7 f0_vertexCount f0_lineLength f0_nextLength a1 a2 a3 a4 a5 a6 a7 a8 a9 => (if x4 < x7 then (if x6 = 0 then (qb_wX_repairLine_167 post x4 x5 x6 0 20 x3 f0_vertexCount f0_lineLength f0_nextLength a1 a2 a3 a4 a5 a6 a7 a8 a9) else (qb_wpX_bitsIn (fun r_114 => (qb_v (r_114 - 1) (fun x7_115 => (qb_wpX_melt (fun r_116 u => match u with | (f0_vertexCount_117, f0_lineLength_118, f0_nextLength_119, am1531_122, am1532_125, am1533_128, am1534_131, am1535_134, am1536_137, am1537_140, am1538_143, am1539_146) => (qb_wpX_append (fun u => match u with | (f0_vertexCount_148, f0_lineLength_149, f0_nextLength_150, am1611_153, am1612_156, am1613_159, am1614_162, am1615_165, am1616_168, am1617_171, am1618_174, am1619_177) => (qb_wX_repairLine_167 post x4 x5 x6 x7_115 20 x3 f0_vertexCount_148 f0_lineLength_149 f0_nextLength_150 am1611_153 am1612_156 am1613_159 am1614_162 am1615_165 am1616_168 am1617_171 am1618_174 am1619_177)) (f0_vertexCount_117, f0_lineLength_118, f0_nextLength_119, am1531_122, am1532_125, am1533_128, am1534_131, am1535_134, am1536_137, am1537_140, am1538_143, am1539_146) r_116)) (f0_vertexCount, f0_lineLength, f0_nextLength, a1, a2, a3, a4, a5, a6, a7, a8, a9) x6)))) (f0_vertexCount, f0_lineLength, f0_nextLength, a1, a2, a3, a4, a5, a6, a7, a8, a9) x6)) else (qb_in x7 16 && (if ((x5 >>> ((a6 x7.toNatClampNeg) &&& 31)) &&& 1) = 0 then (qb_in x7 16 && (qb_v (a6 x7.toNatClampNeg) (fun qz1 => (qb_wpX_append (fun u => match u with | (f0_vertexCount_183, f0_lineLength_184, f0_nextLength_185, am1231_188, am1232_191, am1233_194, am1234_197, am1235_200, am1236_203, am1237_206, am1238_209, am1239_212) => (qb_v (x7 + 1) (fun x7_213 => (qih x7_213 f0_vertexCount_183 f0_lineLength_184 f0_nextLength_185 am1231_188 am1232_191 am1233_194 am1234_197 am1235_200 am1236_203 am1237_206 am1238_209 am1239_212)))) (f0_vertexCount, f0_lineLength, f0_nextLength, a1, a2, a3, a4, a5, a6, a7, a8, a9) qz1)))) else (qb_v (x7 + 1) (fun x7_180 => (qih x7_180 f0_vertexCount f0_lineLength f0_nextLength a1 a2 a3 a4 a5 a6 a7 a8 a9))))))) n
theorem qs_wX_repairLine_93 {post : Int32 → St2 → Prop} {x3 : Int32} {x4 : Int32} {x5 : Int32} {x6 : Int32} {postb : Int32 → St2 → Bool} (qh_post : ∀ (y0 : Int32) (y1 : St2), postb y0 y1 = true → post y0 y1) : ∀ (n : Nat) (x7 : Int32) (f0_vertexCount : Int32) (f0_lineLength : Int32) (f0_nextLength : Int32) (a1 : (Nat → Int32)) (a2 : (Nat → Int32)) (a3 : (Nat → Int32)) (a4 : (Nat → Int32)) (a5 : (Nat → Int32)) (a6 : (Nat → Int32)) (a7 : (Nat → Int32)) (a8 : (Nat → Int32)) (a9 : (Nat → Int32)), qb_wX_repairLine_93 postb x3 x4 x5 x6 n x7 f0_vertexCount f0_lineLength f0_nextLength a1 a2 a3 a4 a5 a6 a7 a8 a9 = true → wX_repairLine_93 post x3 x4 x5 x6 n x7 f0_vertexCount f0_lineLength f0_nextLength a1 a2 a3 a4 a5 a6 a7 a8 a9 := by
  intro n
  induction n with
  | zero =>
    intro _ _ _ _ _ _ _ _ _ _ _ _ _
    exact fun h => absurd h Bool.false_ne_true
  | succ n ih =>
    intro x7 f0_vertexCount f0_lineLength f0_nextLength a1 a2 a3 a4 a5 a6 a7 a8 a9
    refine qs_if ?_ ?_
    · refine qs_if ?_ ?_
      · refine qs_ex 20 ?_
        exact qs_wX_repairLine_167 qh_post _ _ _ _ _ _ _ _ _ _ _ _ _ _
      · refine qs_wpX_bitsIn ?_
        intro r_114
        refine qs_v (fun x7_115 => ?_)
        refine qs_wpX_melt ?_
        rintro r_116 ⟨f0_vertexCount_117, f0_lineLength_118, f0_nextLength_119, am1531_122, am1532_125, am1533_128, am1534_131, am1535_134, am1536_137, am1537_140, am1538_143, am1539_146⟩
        refine qs_wpX_append ?_
        rintro ⟨f0_vertexCount_148, f0_lineLength_149, f0_nextLength_150, am1611_153, am1612_156, am1613_159, am1614_162, am1615_165, am1616_168, am1617_171, am1618_174, am1619_177⟩
        refine qs_ex 20 ?_
        exact qs_wX_repairLine_167 qh_post _ _ _ _ _ _ _ _ _ _ _ _ _ _
    · refine qs_vp ?_
      refine qs_if ?_ ?_
      · refine qs_vp ?_
        refine qs_f ?_
        refine qs_wpX_append ?_
        rintro ⟨f0_vertexCount_183, f0_lineLength_184, f0_nextLength_185, am1231_188, am1232_191, am1233_194, am1234_197, am1235_200, am1236_203, am1237_206, am1238_209, am1239_212⟩
        refine qs_v (fun x7_213 => ?_)
        exact ih _ _ _ _ _ _ _ _ _ _ _ _ _
      · refine qs_v (fun x7_180 => ?_)
        exact ih _ _ _ _ _ _ _ _ _ _ _ _ _
noncomputable def qb_wX_repairLine_67 (post : Int32 → St2 → Bool) (x3 : Int32) (x4 : Int32) (x5 : Int32) (x6 : Int32) : Nat → Int32 → Int32 → Int32 → Int32 → (Nat → Int32) → (Nat → Int32) → (Nat → Int32) → (Nat → Int32) → (Nat → Int32) → (Nat → Int32) → (Nat → Int32) → (Nat → Int32) → (Nat → Int32) → Bool := fun n => @Nat.rec (fun _ => Int32 → Int32 → Int32 → Int32 → (Nat → Int32) → (Nat → Int32) → (Nat → Int32) → (Nat → Int32) → (Nat → Int32) → (Nat → Int32) → (Nat → Int32) → (Nat → Int32) → (Nat → Int32) → Bool) (fun _ _ _ _ _ _ _ _ _ _ _ _ _ => false) (fun _ qih x7 f0_vertexCount f0_lineLength f0_nextLength a1 a2 a3 a4 a5 a6 a7 a8 a9 => (if x3 ≤ x7 then (qb_wX_repairLine_93 post x3 x4 x5 x6 20 x3 f0_vertexCount f0_lineLength f0_nextLength a1 a2 a3 a4 a5 a6 a7 a8 a9) else (qb_in x7 16 && (qb_v (a6 x7.toNatClampNeg) (fun qz1 => (qb_wpX_append (fun u => match u with | (f0_vertexCount_216, f0_lineLength_217, f0_nextLength_218, am811_221, am812_224, am813_227, am814_230, am815_233, am816_236, am817_239, am818_242, am819_245) => (qb_v (x7 + 1) (fun x7_246 => (qih x7_246 f0_vertexCount_216 f0_lineLength_217 f0_nextLength_218 am811_221 am812_224 am813_227 am814_230 am815_233 am816_236 am817_239 am818_242 am819_245)))) (f0_vertexCount, f0_lineLength, f0_nextLength, a1, a2, a3, a4, a5, a6, a7, a8, a9) qz1)))))) n
theorem qs_wX_repairLine_67 {post : Int32 → St2 → Prop} {x3 : Int32} {x4 : Int32} {x5 : Int32} {x6 : Int32} {postb : Int32 → St2 → Bool} (qh_post : ∀ (y0 : Int32) (y1 : St2), postb y0 y1 = true → post y0 y1) : ∀ (n : Nat) (x7 : Int32) (f0_vertexCount : Int32) (f0_lineLength : Int32) (f0_nextLength : Int32) (a1 : (Nat → Int32)) (a2 : (Nat → Int32)) (a3 : (Nat → Int32)) (a4 : (Nat → Int32)) (a5 : (Nat → Int32)) (a6 : (Nat → Int32)) (a7 : (Nat → Int32)) (a8 : (Nat → Int32)) (a9 : (Nat → Int32)), qb_wX_repairLine_67 postb x3 x4 x5 x6 n x7 f0_vertexCount f0_lineLength f0_nextLength a1 a2 a3 a4 a5 a6 a7 a8 a9 = true → wX_repairLine_67 post x3 x4 x5 x6 n x7 f0_vertexCount f0_lineLength f0_nextLength a1 a2 a3 a4 a5 a6 a7 a8 a9 := by
  intro n
  induction n with
  | zero =>
    intro _ _ _ _ _ _ _ _ _ _ _ _ _
    exact fun h => absurd h Bool.false_ne_true
  | succ n ih =>
    intro x7 f0_vertexCount f0_lineLength f0_nextLength a1 a2 a3 a4 a5 a6 a7 a8 a9
    refine qs_if ?_ ?_
    · refine qs_ex 20 ?_
      exact qs_wX_repairLine_93 qh_post _ _ _ _ _ _ _ _ _ _ _ _ _ _
    · refine qs_vp ?_
      refine qs_f ?_
      refine qs_wpX_append ?_
      rintro ⟨f0_vertexCount_216, f0_lineLength_217, f0_nextLength_218, am811_221, am812_224, am813_227, am814_230, am815_233, am816_236, am817_239, am818_242, am819_245⟩
      refine qs_v (fun x7_246 => ?_)
      exact ih _ _ _ _ _ _ _ _ _ _ _ _ _
noncomputable def qb_wpX_repairLine (post : Int32 → St2 → Bool) (u : St2) (p0 : Int32) (p1 : Int32) : Bool := match u with
  | (f0_vertexCount, f0_lineLength, f0_nextLength, a1, a2, a3, a4, a5, a6, a7, a8, a9) => (qb_in p1 16 && (qb_v (a5 p1.toNatClampNeg) (fun x3_2 => (qb_in p0 16 && (qb_v (a5 p0.toNatClampNeg) (fun x4_4 => (qb_wpX_forwardUpTo (fun r_5 => (if ((r_5 >>> (p0 &&& 31)) &&& 1) = 0 then (qb_wX_repairLine_67 post x3_2 x4_4 r_5 0 20 0 f0_vertexCount f0_lineLength 0 a1 a2 a3 a4 a5 a6 a7 a8 a9) else (qb_wpX_backwardDownTo (fun r_247 => (qb_wpX_leadersBetween (fun r_248 => (qb_v ((r_5 &&& r_247) &&& r_248) (fun x6_249 => (qb_wX_repairLine_67 post x3_2 x4_4 r_5 x6_249 20 0 f0_vertexCount f0_lineLength 0 a1 a2 a3 a4 a5 a6 a7 a8 a9)))) (f0_vertexCount, f0_lineLength, f0_nextLength, a1, a2, a3, a4, a5, a6, a7, a8, a9) x3_2 x4_4)) (f0_vertexCount, f0_lineLength, f0_nextLength, a1, a2, a3, a4, a5, a6, a7, a8, a9) p0 x3_2))) (f0_vertexCount, f0_lineLength, f0_nextLength, a1, a2, a3, a4, a5, a6, a7, a8, a9) p1 x4_4)))))))
theorem qs_wpX_repairLine {post : Int32 → St2 → Prop} {u : St2} {p0 : Int32} {p1 : Int32} {postb : Int32 → St2 → Bool} (qh_post : ∀ (y0 : Int32) (y1 : St2), postb y0 y1 = true → post y0 y1) : qb_wpX_repairLine postb u p0 p1 = true → wpX_repairLine post u p0 p1 := by
  obtain ⟨f0_vertexCount, f0_lineLength, f0_nextLength, a1, a2, a3, a4, a5, a6, a7, a8, a9⟩ := u
  unfold qb_wpX_repairLine wpX_repairLine
  refine qs_vp ?_
  refine qs_v (fun x3_2 => ?_)
  refine qs_vp ?_
  refine qs_v (fun x4_4 => ?_)
  refine qs_wpX_forwardUpTo ?_
  intro r_5
  refine qs_if ?_ ?_
  · refine qs_ex 20 ?_
    exact qs_wX_repairLine_67 qh_post _ _ _ _ _ _ _ _ _ _ _ _ _ _
  · refine qs_wpX_backwardDownTo ?_
    intro r_247
    refine qs_wpX_leadersBetween ?_
    intro r_248
    refine qs_v (fun x6_249 => ?_)
    refine qs_ex 20 ?_
    exact qs_wX_repairLine_67 qh_post _ _ _ _ _ _ _ _ _ _ _ _ _ _
noncomputable def qb_wpX_addEdge (post : Int32 → St2 → Bool) (u : St2) (p0 : Int32) (p1 : Int32) : Bool := match u with
  | (f0_vertexCount, f0_lineLength, f0_nextLength, a1, a2, a3, a4, a5, a6, a7, a8, a9) => (qb_wpX_isVertex (fun r_1 => (if r_1 = 0 then (post (-1) (f0_vertexCount, f0_lineLength, f0_nextLength, a1, a2, a3, a4, a5, a6, a7, a8, a9)) else (qb_wpX_isVertex (fun r_3 => (if r_3 = 0 then (post (-1) (f0_vertexCount, f0_lineLength, f0_nextLength, a1, a2, a3, a4, a5, a6, a7, a8, a9)) else (if p0 = p1 then (post (-1) (f0_vertexCount, f0_lineLength, f0_nextLength, a1, a2, a3, a4, a5, a6, a7, a8, a9)) else (qb_in p0 16 && (if (((a1 p0.toNatClampNeg) >>> (p1 &&& 31)) &&& 1) = 0 then (qb_in p0 16 && (qb_in p0 16 && (qb_a a1 (p0.toNatClampNeg) (((a1 p0.toNatClampNeg) ||| ((1 : Int32) <<< (p1 &&& 31)))) (fun a1_10 => (qb_in p1 16 && (qb_in p1 16 && (qb_a a2 (p1.toNatClampNeg) (((a2 p1.toNatClampNeg) ||| ((1 : Int32) <<< (p0 &&& 31)))) (fun a2_13 => (qb_in p0 16 && (qb_v (a3 p0.toNatClampNeg) (fun x3_15 => (qb_in p1 16 && (qb_v (a3 p1.toNatClampNeg) (fun x4_17 => (qb_in x3_15 16 && (qb_in x4_17 16 && (if (a5 x4_17.toNatClampNeg) < (a5 x3_15.toNatClampNeg) then (qb_wpX_repairLine (fun r_21 u => match u with | (f0_vertexCount_22, f0_lineLength_23, f0_nextLength_24, am1001_27, am1002_30, am1003_33, am1004_36, am1005_39, am1006_42, am1007_45, am1008_48, am1009_51) => (post r_21 (f0_vertexCount_22, f0_lineLength_23, f0_nextLength_24, am1001_27, am1002_30, am1003_33, am1004_36, am1005_39, am1006_42, am1007_45, am1008_48, am1009_51))) (f0_vertexCount, f0_lineLength, f0_nextLength, a1_10, a2_13, a3, a4, a5, a6, a7, a8, a9) x3_15 x4_17) else (post 0 (f0_vertexCount, f0_lineLength, f0_nextLength, a1_10, a2_13, a3, a4, a5, a6, a7, a8, a9))))))))))))))))))) else (post (-2) (f0_vertexCount, f0_lineLength, f0_nextLength, a1, a2, a3, a4, a5, a6, a7, a8, a9))))))) (f0_vertexCount, f0_lineLength, f0_nextLength, a1, a2, a3, a4, a5, a6, a7, a8, a9) p1))) (f0_vertexCount, f0_lineLength, f0_nextLength, a1, a2, a3, a4, a5, a6, a7, a8, a9) p0)
theorem qs_wpX_addEdge {post : Int32 → St2 → Prop} {u : St2} {p0 : Int32} {p1 : Int32} {postb : Int32 → St2 → Bool} (qh_post : ∀ (y0 : Int32) (y1 : St2), postb y0 y1 = true → post y0 y1) : qb_wpX_addEdge postb u p0 p1 = true → wpX_addEdge post u p0 p1 := by
  obtain ⟨f0_vertexCount, f0_lineLength, f0_nextLength, a1, a2, a3, a4, a5, a6, a7, a8, a9⟩ := u
  unfold qb_wpX_addEdge wpX_addEdge
  refine qs_wpX_isVertex ?_
  intro r_1
  refine qs_if ?_ ?_
  · exact qh_post _ _
  · refine qs_wpX_isVertex ?_
    intro r_3
    refine qs_if ?_ ?_
    · exact qh_post _ _
    · refine qs_if ?_ ?_
      · exact qh_post _ _
      · refine qs_vp ?_
        refine qs_if ?_ ?_
        · refine qs_vp ?_
          refine qs_vp ?_
          refine qs_a (fun a1_10 => ?_)
          refine qs_vp ?_
          refine qs_vp ?_
          refine qs_a (fun a2_13 => ?_)
          refine qs_vp ?_
          refine qs_v (fun x3_15 => ?_)
          refine qs_vp ?_
          refine qs_v (fun x4_17 => ?_)
          refine qs_vp ?_
          refine qs_vp ?_
          refine qs_if ?_ ?_
          · refine qs_wpX_repairLine ?_
            rintro r_21 ⟨f0_vertexCount_22, f0_lineLength_23, f0_nextLength_24, am1001_27, am1002_30, am1003_33, am1004_36, am1005_39, am1006_42, am1007_45, am1008_48, am1009_51⟩
            exact qh_post _ _
          · exact qh_post _ _
        · exact qh_post _ _
end
section
/-- the bits of the set that the law reads -/
def qb_key (k : Int32) : Bool := decide (k = 1) || decide (k = 2) || decide (k = 3) || decide (k = 5) || decide (k = 6) || decide (k = 7)
/-- two sets that agree on them -/
def qb_ok (x s : Int32) : Prop := ∀ k, qb_key k = true → ((x >>> k) &&& 1) = ((s >>> k) &&& 1)
noncomputable def qb_wpL_edge (post : Int32 → Bool) (p0 : Int32) (p1 : Int32) (p2 : Int32) : Bool := if p1 = p2 then post 0 else qb_v (((3 * p1) + p2) &&& 31) (fun k => qb_key k && (if ((p0 >>> k) &&& 1) = 1 then post 1 else post 0))
theorem qs_wpL_edge {post : Int32 → Prop} {u : St0} {p0 : Int32} {p1 : Int32} {p2 : Int32} {p0s : Int32} {postb : Int32 → Bool} (qh_s : qb_ok p0 p0s) (qh_post : ∀ (y0 : Int32), postb y0 = true → post y0) : qb_wpL_edge postb p0s p1 p2 = true → wpL_edge post u p0 p1 p2 := by
  refine qs_if (qh_post 0) ?_
  refine qs_f ?_
  intro h
  rw [Bool.and_eq_true] at h
  obtain ⟨hk, h⟩ := h
  have e := qh_s _ hk
  rw [← e] at h
  exact qs_if (qh_post 1) (qh_post 0) h
/-- the law's last check, at each vertex -/
noncomputable def qb_fin (post : Int32 → St0 → Bool) (f0 f1 f2 : Int32) (a1 a2 a3 a4 a5 a6 a7 a8 a9 : Nat → Int32) : Bool :=
  post 1 () && (decide (f0 = 3) && (qb_wpX_reaches (fun r => decide (r = 1)) (f0, f1, f2, a1, a2, a3, a4, a5, a6, a7, a8, a9) 0 0 && (qb_wpX_reaches (fun r => decide (r = 1)) (f0, f1, f2, a1, a2, a3, a4, a5, a6, a7, a8, a9) 1 1 && qb_wpX_reaches (fun r => decide (r = 1)) (f0, f1, f2, a1, a2, a3, a4, a5, a6, a7, a8, a9) 2 2)))
theorem qs_fin {post : Int32 → St0 → Prop} {mc ms kc ks : Nat} {x1 f0 f1 f2 : Int32} {a1 a2 a3 a4 a5 a6 a7 a8 a9 : Nat → Int32} {postb : Int32 → St0 → Bool} (qh_post : ∀ (y0 : Int32) (y1 : St0), postb y0 y1 = true → post y0 y1) :
    qb_fin postb f0 f1 f2 a1 a2 a3 a4 a5 a6 a7 a8 a9 = true → wpX_reaches (fun r => (((x1 < 0 → (wL_lawOf_498 post mc ms r kc ks)) ∧ (¬ x1 < 0 → (((3 ≤ x1 → (wL_lawOf_498 post mc ms r kc ks)) ∧ (¬ 3 ≤ x1 → (wL_lawOf_499 post mc ms 1 r kc ks)))))))) (f0, f1, f2, a1, a2, a3, a4, a5, a6, a7, a8, a9) x1 x1 := by
  intro h
  unfold qb_fin at h
  rw [Bool.and_eq_true, Bool.and_eq_true, Bool.and_eq_true, Bool.and_eq_true] at h
  obtain ⟨h1, h3, r0, r1, r2⟩ := h
  have P1 : post 1 () := qh_post _ _ h1
  have e3 : f0 = 3 := of_decide_eq_true h3
  subst e3
  have E0 : wL_lawOf_498 post mc ms 0 kc ks := br_t rfl P1
  have E1 : ∀ r, decide (r = (1 : Int32)) = true → wL_lawOf_499 post mc ms 1 r kc ks := fun r hr => br_t (of_decide_eq_true hr) P1
  by_cases a : x1 < 0
  · exact br_t a (br_t rfl (br_t a E0))
  · by_cases b : 3 ≤ x1
    · exact br_f a (br_t b (br_t rfl (br_f a (br_t b E0))))
    · obtain ⟨j, hj, e⟩ := nI_of a
      have hj3 : j < 3 := by
        rcases Nat.lt_or_ge j 3 with z | z
        · exact z
        · exact absurd (show (3 : Int32) ≤ x1 from by rw [e]; exact nI_le (a := 3) z hj) b
      have F : ∀ r, decide (r = (1 : Int32)) = true → (((x1 < 0 → (wL_lawOf_498 post mc ms r kc ks)) ∧ (¬ x1 < 0 → (((3 ≤ x1 → (wL_lawOf_498 post mc ms r kc ks)) ∧ (¬ 3 ≤ x1 → (wL_lawOf_499 post mc ms 1 r kc ks))))))) := fun r hr => br_f a (br_f b (E1 r hr))
      have hc : x1 = 0 ∨ x1 = 1 ∨ x1 = 2 := by
        have : j = 0 ∨ j = 1 ∨ j = 2 := by omega
        rcases this with z | z | z
        · exact Or.inl (by rw [e, z]; rfl)
        · exact Or.inr (Or.inl (by rw [e, z]; rfl))
        · exact Or.inr (Or.inr (by rw [e, z]; rfl))
      rcases hc with z | z | z
      · subst z
        exact qs_wpX_reaches F r0
      · subst z
        exact qs_wpX_reaches F r1
      · subst z
        exact qs_wpX_reaches F r2
noncomputable def qb_wpL_reach (post : Int32 → Bool) (p0 : Int32) (p1 : Int32) (p2 : Int32) : Bool := (if p1 = p2 then (post 1) else (qb_wpL_edge (fun r_2 => (if r_2 = 0 then (qb_v ((3 - p1) - p2) (fun x3_4 => (qb_wpL_edge (fun r_5 => (if r_5 = 0 then (post 0) else (qb_wpL_edge (fun r_7 => (if r_7 = 0 then (post 0) else (post 1))) p0 x3_4 p2))) p0 p1 x3_4))) else (post 1))) p0 p1 p2))
theorem qs_wpL_reach {post : Int32 → Prop} {u : St0} {p0 : Int32} {p1 : Int32} {p2 : Int32} {p0s : Int32} {postb : Int32 → Bool} (qh_s : qb_ok p0 p0s) (qh_post : ∀ (y0 : Int32), postb y0 = true → post y0) : qb_wpL_reach postb p0s p1 p2 = true → wpL_reach post u p0 p1 p2 := by
  unfold qb_wpL_reach wpL_reach
  refine qs_if ?_ ?_
  · exact qh_post _
  · refine qs_wpL_edge qh_s ?_
    intro r_2
    refine qs_if ?_ ?_
    · refine qs_v (fun x3_4 => ?_)
      refine qs_wpL_edge qh_s ?_
      intro r_5
      refine qs_if ?_ ?_
      · exact qh_post _
      · refine qs_wpL_edge qh_s ?_
        intro r_7
        refine qs_if ?_ ?_
        · exact qh_post _
        · exact qh_post _
    · exact qh_post _
noncomputable def qb_wpL_both (post : Int32 → Bool) (p0 : Int32) (p1 : Int32) (p2 : Int32) : Bool := (qb_wpL_reach (fun r_1 => (if r_1 = 0 then (post 0) else (qb_wpL_reach (fun r_3 => (if r_3 = 0 then (post 0) else (post 1))) p0 p2 p1))) p0 p1 p2)
theorem qs_wpL_both {post : Int32 → Prop} {u : St0} {p0 : Int32} {p1 : Int32} {p2 : Int32} {p0s : Int32} {postb : Int32 → Bool} (qh_s : qb_ok p0 p0s) (qh_post : ∀ (y0 : Int32), postb y0 = true → post y0) : qb_wpL_both postb p0s p1 p2 = true → wpL_both post u p0 p1 p2 := by
  unfold qb_wpL_both wpL_both
  refine qs_wpL_reach qh_s ?_
  intro r_1
  refine qs_if ?_ ?_
  · exact qh_post _
  · refine qs_wpL_reach qh_s ?_
    intro r_3
    refine qs_if ?_ ?_
    · exact qh_post _
    · exact qh_post _
noncomputable def qb_wpL_leader (post : Int32 → Bool) (p0 : Int32) (p1 : Int32) : Bool := (qb_wpL_both (fun r_1 => (if r_1 = 0 then (qb_wpL_both (fun r_3 => (if r_3 = 0 then (post 2) else (post 1))) p0 p1 1) else (post 0))) p0 p1 0)
theorem qs_wpL_leader {post : Int32 → Prop} {u : St0} {p0 : Int32} {p1 : Int32} {p0s : Int32} {postb : Int32 → Bool} (qh_s : qb_ok p0 p0s) (qh_post : ∀ (y0 : Int32), postb y0 = true → post y0) : qb_wpL_leader postb p0s p1 = true → wpL_leader post u p0 p1 := by
  unfold qb_wpL_leader wpL_leader
  refine qs_wpL_both qh_s ?_
  intro r_1
  refine qs_if ?_ ?_
  · refine qs_wpL_both qh_s ?_
    intro r_3
    refine qs_if ?_ ?_
    · exact qh_post _
    · exact qh_post _
  · exact qh_post _
noncomputable def qb_wL_lawOf_467 (post : Int32 → St0 → Bool) (J193 : Int32 → Bool) (x0 : Int32) (x7 : Int32) (z0 : Int32) (z1 : Int32) (z2 : Int32) (fm0_vertexCount : Int32) (fm0_lineLength : Int32) (fm0_nextLength : Int32) (am51 : Nat → Int32) (am52 : Nat → Int32) (am53 : Nat → Int32) (am54 : Nat → Int32) (am55 : Nat → Int32) (am56 : Nat → Int32) (am57 : Nat → Int32) (am58 : Nat → Int32) (am59 : Nat → Int32) : Bool := (if z2 = (z1 + z0) then (qb_v (x7 + 1) (fun x7_88 => (J193 x7_88))) else (post 0 ()))
theorem qs_wL_lawOf_467 {post : Int32 → St0 → Prop} {mc : Nat} {ms : Nat} {J193 : Int32 → Prop} {x0 : Int32} {x1 : Int32} {x7 : Int32} {z0 : Int32} {z1 : Int32} {z2 : Int32} {kc : Nat} {ks : Nat} {fm0_vertexCount : Int32} {fm0_lineLength : Int32} {fm0_nextLength : Int32} {am51 : Nat → Int32} {am52 : Nat → Int32} {am53 : Nat → Int32} {am54 : Nat → Int32} {am55 : Nat → Int32} {am56 : Nat → Int32} {am57 : Nat → Int32} {am58 : Nat → Int32} {am59 : Nat → Int32} {x0s : Int32} {postb : Int32 → St0 → Bool} {J193b : Int32 → Bool} (qh_s : qb_ok x0 x0s) (qh_post : ∀ (y0 : Int32) (y1 : St0), postb y0 y1 = true → post y0 y1) (qh_J193 : ∀ (y0 : Int32), J193b y0 = true → J193 y0) : qb_wL_lawOf_467 postb J193b x0s x7 z0 z1 z2 fm0_vertexCount fm0_lineLength fm0_nextLength am51 am52 am53 am54 am55 am56 am57 am58 am59 = true → wL_lawOf_467 post mc ms J193 x0 x1 x7 z0 z1 z2 kc ks fm0_vertexCount fm0_lineLength fm0_nextLength am51 am52 am53 am54 am55 am56 am57 am58 am59 := by
  unfold qb_wL_lawOf_467 wL_lawOf_467
  refine qs_if ?_ ?_
  · refine qs_v (fun x7_88 => ?_)
    exact qh_J193 _
  · exact qh_post _ _
noncomputable def qb_wL_lawOf_450 (post : Int32 → St0 → Bool) (J193 : Int32 → Bool) (x0 : Int32) (x7 : Int32) (x9 : Int32) (z0 : Int32) (z1 : Int32) (z2 : Int32) (fm0_vertexCount : Int32) (fm0_lineLength : Int32) (fm0_nextLength : Int32) (am51 : Nat → Int32) (am52 : Nat → Int32) (am53 : Nat → Int32) (am54 : Nat → Int32) (am55 : Nat → Int32) (am56 : Nat → Int32) (am57 : Nat → Int32) (am58 : Nat → Int32) (am59 : Nat → Int32) : Bool := (qb_wpL_both (fun r_85 => (if r_85 = 0 then (qb_v (z1 + z0) (fun qz1 => (qb_wL_lawOf_467 post J193 x0 x7 0 qz1 z2 fm0_vertexCount fm0_lineLength fm0_nextLength am51 am52 am53 am54 am55 am56 am57 am58 am59))) else (qb_v (z1 + z0) (fun qz2 => (qb_wL_lawOf_467 post J193 x0 x7 1 qz2 z2 fm0_vertexCount fm0_lineLength fm0_nextLength am51 am52 am53 am54 am55 am56 am57 am58 am59))))) x0 x7 x9)
theorem qs_wL_lawOf_450 {post : Int32 → St0 → Prop} {mc : Nat} {ms : Nat} {J193 : Int32 → Prop} {x0 : Int32} {x1 : Int32} {x7 : Int32} {x9 : Int32} {z0 : Int32} {z1 : Int32} {z2 : Int32} {kc : Nat} {ks : Nat} {fm0_vertexCount : Int32} {fm0_lineLength : Int32} {fm0_nextLength : Int32} {am51 : Nat → Int32} {am52 : Nat → Int32} {am53 : Nat → Int32} {am54 : Nat → Int32} {am55 : Nat → Int32} {am56 : Nat → Int32} {am57 : Nat → Int32} {am58 : Nat → Int32} {am59 : Nat → Int32} {x0s : Int32} {postb : Int32 → St0 → Bool} {J193b : Int32 → Bool} (qh_s : qb_ok x0 x0s) (qh_post : ∀ (y0 : Int32) (y1 : St0), postb y0 y1 = true → post y0 y1) (qh_J193 : ∀ (y0 : Int32), J193b y0 = true → J193 y0) : qb_wL_lawOf_450 postb J193b x0s x7 x9 z0 z1 z2 fm0_vertexCount fm0_lineLength fm0_nextLength am51 am52 am53 am54 am55 am56 am57 am58 am59 = true → wL_lawOf_450 post mc ms J193 x0 x1 x7 x9 z0 z1 z2 kc ks fm0_vertexCount fm0_lineLength fm0_nextLength am51 am52 am53 am54 am55 am56 am57 am58 am59 := by
  unfold qb_wL_lawOf_450 wL_lawOf_450
  refine qs_wpL_both qh_s ?_
  intro r_85
  refine qs_if ?_ ?_
  · refine qs_f ?_
    exact qs_wL_lawOf_467 qh_s qh_post qh_J193
  · refine qs_f ?_
    exact qs_wL_lawOf_467 qh_s qh_post qh_J193
noncomputable def qb_wL_lawOf_365 (post : Int32 → St0 → Bool) (J193 : Int32 → Bool) (x0 : Int32) (x7 : Int32) (x8 : Int32) (x9 : Int32) (z0 : Int32) (z1 : Int32) (fm0_vertexCount : Int32) (fm0_lineLength : Int32) (fm0_nextLength : Int32) (am51 : Nat → Int32) (am52 : Nat → Int32) (am53 : Nat → Int32) (am54 : Nat → Int32) (am55 : Nat → Int32) (am56 : Nat → Int32) (am57 : Nat → Int32) (am58 : Nat → Int32) (am59 : Nat → Int32) : Bool := (if z1 = z0 then (qb_wpX_leader (fun r_73 => (qb_wpL_leader (fun r_74 => (if r_73 = r_74 then (qb_wpX_reaches (fun r_76 => (qb_wpL_reach (fun r_77 => (if r_76 = r_77 then (qb_wpX_reaches (fun r_79 => (qb_wpL_reach (fun r_80 => (if r_79 = r_80 then (qb_wpX_componentSize (fun r_82 => (qb_wpL_both (fun r_83 => (if r_83 = 0 then (qb_wL_lawOf_450 post J193 x0 x7 x9 0 1 r_82 fm0_vertexCount fm0_lineLength fm0_nextLength am51 am52 am53 am54 am55 am56 am57 am58 am59) else (qb_wL_lawOf_450 post J193 x0 x7 x9 1 1 r_82 fm0_vertexCount fm0_lineLength fm0_nextLength am51 am52 am53 am54 am55 am56 am57 am58 am59))) x0 x7 x8)) (fm0_vertexCount, fm0_lineLength, fm0_nextLength, am51, am52, am53, am54, am55, am56, am57, am58, am59) x7) else (post 0 ()))) x0 x7 x9)) (fm0_vertexCount, fm0_lineLength, fm0_nextLength, am51, am52, am53, am54, am55, am56, am57, am58, am59) x7 x9) else (post 0 ()))) x0 x7 x8)) (fm0_vertexCount, fm0_lineLength, fm0_nextLength, am51, am52, am53, am54, am55, am56, am57, am58, am59) x7 x8) else (post 0 ()))) x0 x7)) (fm0_vertexCount, fm0_lineLength, fm0_nextLength, am51, am52, am53, am54, am55, am56, am57, am58, am59) x7) else (post 0 ()))
theorem qs_wL_lawOf_365 {post : Int32 → St0 → Prop} {mc : Nat} {ms : Nat} {J193 : Int32 → Prop} {x0 : Int32} {x1 : Int32} {x7 : Int32} {x8 : Int32} {x9 : Int32} {z0 : Int32} {z1 : Int32} {kc : Nat} {ks : Nat} {fm0_vertexCount : Int32} {fm0_lineLength : Int32} {fm0_nextLength : Int32} {am51 : Nat → Int32} {am52 : Nat → Int32} {am53 : Nat → Int32} {am54 : Nat → Int32} {am55 : Nat → Int32} {am56 : Nat → Int32} {am57 : Nat → Int32} {am58 : Nat → Int32} {am59 : Nat → Int32} {x0s : Int32} {postb : Int32 → St0 → Bool} {J193b : Int32 → Bool} (qh_s : qb_ok x0 x0s) (qh_post : ∀ (y0 : Int32) (y1 : St0), postb y0 y1 = true → post y0 y1) (qh_J193 : ∀ (y0 : Int32), J193b y0 = true → J193 y0) : qb_wL_lawOf_365 postb J193b x0s x7 x8 x9 z0 z1 fm0_vertexCount fm0_lineLength fm0_nextLength am51 am52 am53 am54 am55 am56 am57 am58 am59 = true → wL_lawOf_365 post mc ms J193 x0 x1 x7 x8 x9 z0 z1 kc ks fm0_vertexCount fm0_lineLength fm0_nextLength am51 am52 am53 am54 am55 am56 am57 am58 am59 := by
  unfold qb_wL_lawOf_365 wL_lawOf_365
  refine qs_if ?_ ?_
  · refine qs_wpX_leader ?_
    intro r_73
    refine qs_wpL_leader qh_s ?_
    intro r_74
    refine qs_if ?_ ?_
    · refine qs_wpX_reaches ?_
      intro r_76
      refine qs_wpL_reach qh_s ?_
      intro r_77
      refine qs_if ?_ ?_
      · refine qs_wpX_reaches ?_
        intro r_79
        refine qs_wpL_reach qh_s ?_
        intro r_80
        refine qs_if ?_ ?_
        · refine qs_wpX_componentSize ?_
          intro r_82
          refine qs_wpL_both qh_s ?_
          intro r_83
          refine qs_if ?_ ?_
          · exact qs_wL_lawOf_450 qh_s qh_post qh_J193
          · exact qs_wL_lawOf_450 qh_s qh_post qh_J193
        · exact qh_post _ _
      · exact qh_post _ _
    · exact qh_post _ _
  · exact qh_post _ _
noncomputable def qb_wL_lawOf_337 (post : Int32 → St0 → Bool) (J193 : Int32 → Bool) (x0 : Int32) (x7 : Int32) (x8 : Int32) (x9 : Int32) (x10 : Int32) (z0 : Int32) (fm0_vertexCount : Int32) (fm0_lineLength : Int32) (fm0_nextLength : Int32) (am51 : Nat → Int32) (am52 : Nat → Int32) (am53 : Nat → Int32) (am54 : Nat → Int32) (am55 : Nat → Int32) (am56 : Nat → Int32) (am57 : Nat → Int32) (am58 : Nat → Int32) (am59 : Nat → Int32) : Bool := (qb_wpX_cycle (fun r_69 => (if x10 = 0 then (if z0 = 0 then (qb_wL_lawOf_365 post J193 x0 x7 x8 x9 (-2) r_69 fm0_vertexCount fm0_lineLength fm0_nextLength am51 am52 am53 am54 am55 am56 am57 am58 am59) else (qb_wL_lawOf_365 post J193 x0 x7 x8 x9 3 r_69 fm0_vertexCount fm0_lineLength fm0_nextLength am51 am52 am53 am54 am55 am56 am57 am58 am59)) else (qb_wL_lawOf_365 post J193 x0 x7 x8 x9 2 r_69 fm0_vertexCount fm0_lineLength fm0_nextLength am51 am52 am53 am54 am55 am56 am57 am58 am59))) (fm0_vertexCount, fm0_lineLength, fm0_nextLength, am51, am52, am53, am54, am55, am56, am57, am58, am59) x7)
theorem qs_wL_lawOf_337 {post : Int32 → St0 → Prop} {mc : Nat} {ms : Nat} {J193 : Int32 → Prop} {x0 : Int32} {x1 : Int32} {x7 : Int32} {x8 : Int32} {x9 : Int32} {x10 : Int32} {z0 : Int32} {kc : Nat} {ks : Nat} {fm0_vertexCount : Int32} {fm0_lineLength : Int32} {fm0_nextLength : Int32} {am51 : Nat → Int32} {am52 : Nat → Int32} {am53 : Nat → Int32} {am54 : Nat → Int32} {am55 : Nat → Int32} {am56 : Nat → Int32} {am57 : Nat → Int32} {am58 : Nat → Int32} {am59 : Nat → Int32} {x0s : Int32} {postb : Int32 → St0 → Bool} {J193b : Int32 → Bool} (qh_s : qb_ok x0 x0s) (qh_post : ∀ (y0 : Int32) (y1 : St0), postb y0 y1 = true → post y0 y1) (qh_J193 : ∀ (y0 : Int32), J193b y0 = true → J193 y0) : qb_wL_lawOf_337 postb J193b x0s x7 x8 x9 x10 z0 fm0_vertexCount fm0_lineLength fm0_nextLength am51 am52 am53 am54 am55 am56 am57 am58 am59 = true → wL_lawOf_337 post mc ms J193 x0 x1 x7 x8 x9 x10 z0 kc ks fm0_vertexCount fm0_lineLength fm0_nextLength am51 am52 am53 am54 am55 am56 am57 am58 am59 := by
  unfold qb_wL_lawOf_337 wL_lawOf_337
  refine qs_wpX_cycle ?_
  intro r_69
  refine qs_if ?_ ?_
  · refine qs_if ?_ ?_
    · exact qs_wL_lawOf_365 qh_s qh_post qh_J193
    · exact qs_wL_lawOf_365 qh_s qh_post qh_J193
  · exact qs_wL_lawOf_365 qh_s qh_post qh_J193
noncomputable def qb_wL_lawOf_336 (post : Int32 → St0 → Bool) (J193 : Int32 → Bool) (x0 : Int32) (x7 : Int32) (x8 : Int32) (x9 : Int32) (x10 : Int32) (fm0_vertexCount : Int32) (fm0_lineLength : Int32) (fm0_nextLength : Int32) (am51 : Nat → Int32) (am52 : Nat → Int32) (am53 : Nat → Int32) (am54 : Nat → Int32) (am55 : Nat → Int32) (am56 : Nat → Int32) (am57 : Nat → Int32) (am58 : Nat → Int32) (am59 : Nat → Int32) : Bool := (qb_wL_lawOf_337 post J193 x0 x7 x8 x9 x10 0 fm0_vertexCount fm0_lineLength fm0_nextLength am51 am52 am53 am54 am55 am56 am57 am58 am59)
theorem qs_wL_lawOf_336 {post : Int32 → St0 → Prop} {mc : Nat} {ms : Nat} {J193 : Int32 → Prop} {x0 : Int32} {x1 : Int32} {x7 : Int32} {x8 : Int32} {x9 : Int32} {x10 : Int32} {kc : Nat} {ks : Nat} {fm0_vertexCount : Int32} {fm0_lineLength : Int32} {fm0_nextLength : Int32} {am51 : Nat → Int32} {am52 : Nat → Int32} {am53 : Nat → Int32} {am54 : Nat → Int32} {am55 : Nat → Int32} {am56 : Nat → Int32} {am57 : Nat → Int32} {am58 : Nat → Int32} {am59 : Nat → Int32} {x0s : Int32} {postb : Int32 → St0 → Bool} {J193b : Int32 → Bool} (qh_s : qb_ok x0 x0s) (qh_post : ∀ (y0 : Int32) (y1 : St0), postb y0 y1 = true → post y0 y1) (qh_J193 : ∀ (y0 : Int32), J193b y0 = true → J193 y0) : qb_wL_lawOf_336 postb J193b x0s x7 x8 x9 x10 fm0_vertexCount fm0_lineLength fm0_nextLength am51 am52 am53 am54 am55 am56 am57 am58 am59 = true → wL_lawOf_336 post mc ms J193 x0 x1 x7 x8 x9 x10 kc ks fm0_vertexCount fm0_lineLength fm0_nextLength am51 am52 am53 am54 am55 am56 am57 am58 am59 := by
  unfold qb_wL_lawOf_336 wL_lawOf_336
  exact qs_wL_lawOf_337 qh_s qh_post qh_J193
noncomputable def qb_wL_lawOf_332 (post : Int32 → St0 → Bool) (J193 : Int32 → Bool) (x0 : Int32) (x7 : Int32) (x8 : Int32) (x9 : Int32) (x10 : Int32) (fm0_vertexCount : Int32) (fm0_lineLength : Int32) (fm0_nextLength : Int32) (am51 : Nat → Int32) (am52 : Nat → Int32) (am53 : Nat → Int32) (am54 : Nat → Int32) (am55 : Nat → Int32) (am56 : Nat → Int32) (am57 : Nat → Int32) (am58 : Nat → Int32) (am59 : Nat → Int32) : Bool := (qb_wL_lawOf_337 post J193 x0 x7 x8 x9 x10 1 fm0_vertexCount fm0_lineLength fm0_nextLength am51 am52 am53 am54 am55 am56 am57 am58 am59)
theorem qs_wL_lawOf_332 {post : Int32 → St0 → Prop} {mc : Nat} {ms : Nat} {J193 : Int32 → Prop} {x0 : Int32} {x1 : Int32} {x7 : Int32} {x8 : Int32} {x9 : Int32} {x10 : Int32} {kc : Nat} {ks : Nat} {fm0_vertexCount : Int32} {fm0_lineLength : Int32} {fm0_nextLength : Int32} {am51 : Nat → Int32} {am52 : Nat → Int32} {am53 : Nat → Int32} {am54 : Nat → Int32} {am55 : Nat → Int32} {am56 : Nat → Int32} {am57 : Nat → Int32} {am58 : Nat → Int32} {am59 : Nat → Int32} {x0s : Int32} {postb : Int32 → St0 → Bool} {J193b : Int32 → Bool} (qh_s : qb_ok x0 x0s) (qh_post : ∀ (y0 : Int32) (y1 : St0), postb y0 y1 = true → post y0 y1) (qh_J193 : ∀ (y0 : Int32), J193b y0 = true → J193 y0) : qb_wL_lawOf_332 postb J193b x0s x7 x8 x9 x10 fm0_vertexCount fm0_lineLength fm0_nextLength am51 am52 am53 am54 am55 am56 am57 am58 am59 = true → wL_lawOf_332 post mc ms J193 x0 x1 x7 x8 x9 x10 kc ks fm0_vertexCount fm0_lineLength fm0_nextLength am51 am52 am53 am54 am55 am56 am57 am58 am59 := by
  unfold qb_wL_lawOf_332 wL_lawOf_332
  exact qs_wL_lawOf_337 qh_s qh_post qh_J193
noncomputable def qb_wL_lawOf_299 (post : Int32 → St0 → Bool) (J193 : Int32 → Bool) (x0 : Int32) (x7 : Int32) (x8 : Int32) (x9 : Int32) (x10 : Int32) (fm0_vertexCount : Int32) (fm0_lineLength : Int32) (fm0_nextLength : Int32) (am51 : Nat → Int32) (am52 : Nat → Int32) (am53 : Nat → Int32) (am54 : Nat → Int32) (am55 : Nat → Int32) (am56 : Nat → Int32) (am57 : Nat → Int32) (am58 : Nat → Int32) (am59 : Nat → Int32) : Bool := (qb_wpL_edge (fun r_67 => (if r_67 = 0 then (qb_wL_lawOf_336 post J193 x0 x7 x8 x9 x10 fm0_vertexCount fm0_lineLength fm0_nextLength am51 am52 am53 am54 am55 am56 am57 am58 am59) else (qb_wpL_edge (fun r_89 => (if r_89 = 0 then (qb_wL_lawOf_336 post J193 x0 x7 x8 x9 x10 fm0_vertexCount fm0_lineLength fm0_nextLength am51 am52 am53 am54 am55 am56 am57 am58 am59) else (qb_wpL_edge (fun r_91 => (if r_91 = 0 then (qb_wL_lawOf_336 post J193 x0 x7 x8 x9 x10 fm0_vertexCount fm0_lineLength fm0_nextLength am51 am52 am53 am54 am55 am56 am57 am58 am59) else (qb_wL_lawOf_332 post J193 x0 x7 x8 x9 x10 fm0_vertexCount fm0_lineLength fm0_nextLength am51 am52 am53 am54 am55 am56 am57 am58 am59))) x0 x8 x7))) x0 x9 x8))) x0 x7 x9)
theorem qs_wL_lawOf_299 {post : Int32 → St0 → Prop} {mc : Nat} {ms : Nat} {J193 : Int32 → Prop} {x0 : Int32} {x1 : Int32} {x7 : Int32} {x8 : Int32} {x9 : Int32} {x10 : Int32} {kc : Nat} {ks : Nat} {fm0_vertexCount : Int32} {fm0_lineLength : Int32} {fm0_nextLength : Int32} {am51 : Nat → Int32} {am52 : Nat → Int32} {am53 : Nat → Int32} {am54 : Nat → Int32} {am55 : Nat → Int32} {am56 : Nat → Int32} {am57 : Nat → Int32} {am58 : Nat → Int32} {am59 : Nat → Int32} {x0s : Int32} {postb : Int32 → St0 → Bool} {J193b : Int32 → Bool} (qh_s : qb_ok x0 x0s) (qh_post : ∀ (y0 : Int32) (y1 : St0), postb y0 y1 = true → post y0 y1) (qh_J193 : ∀ (y0 : Int32), J193b y0 = true → J193 y0) : qb_wL_lawOf_299 postb J193b x0s x7 x8 x9 x10 fm0_vertexCount fm0_lineLength fm0_nextLength am51 am52 am53 am54 am55 am56 am57 am58 am59 = true → wL_lawOf_299 post mc ms J193 x0 x1 x7 x8 x9 x10 kc ks fm0_vertexCount fm0_lineLength fm0_nextLength am51 am52 am53 am54 am55 am56 am57 am58 am59 := by
  unfold qb_wL_lawOf_299 wL_lawOf_299
  refine qs_wpL_edge qh_s ?_
  intro r_67
  refine qs_if ?_ ?_
  · exact qs_wL_lawOf_336 qh_s qh_post qh_J193
  · refine qs_wpL_edge qh_s ?_
    intro r_89
    refine qs_if ?_ ?_
    · exact qs_wL_lawOf_336 qh_s qh_post qh_J193
    · refine qs_wpL_edge qh_s ?_
      intro r_91
      refine qs_if ?_ ?_
      · exact qs_wL_lawOf_336 qh_s qh_post qh_J193
      · exact qs_wL_lawOf_332 qh_s qh_post qh_J193
noncomputable def qb_wL_lawOf_264 (post : Int32 → St0 → Bool) (J193 : Int32 → Bool) (x0 : Int32) (x7 : Int32) (x8 : Int32) (x9 : Int32) (z0 : Int32) (fm0_vertexCount : Int32) (fm0_lineLength : Int32) (fm0_nextLength : Int32) (am51 : Nat → Int32) (am52 : Nat → Int32) (am53 : Nat → Int32) (am54 : Nat → Int32) (am55 : Nat → Int32) (am56 : Nat → Int32) (am57 : Nat → Int32) (am58 : Nat → Int32) (am59 : Nat → Int32) : Bool := (qb_wpL_edge (fun r_65 => (if r_65 = 0 then (qb_wL_lawOf_299 post J193 x0 x7 x8 x9 z0 fm0_vertexCount fm0_lineLength fm0_nextLength am51 am52 am53 am54 am55 am56 am57 am58 am59) else (qb_wpL_edge (fun r_93 => (if r_93 = 0 then (qb_wL_lawOf_299 post J193 x0 x7 x8 x9 z0 fm0_vertexCount fm0_lineLength fm0_nextLength am51 am52 am53 am54 am55 am56 am57 am58 am59) else (qb_wpL_edge (fun r_95 => (if r_95 = 0 then (qb_wL_lawOf_299 post J193 x0 x7 x8 x9 z0 fm0_vertexCount fm0_lineLength fm0_nextLength am51 am52 am53 am54 am55 am56 am57 am58 am59) else (qb_wL_lawOf_332 post J193 x0 x7 x8 x9 z0 fm0_vertexCount fm0_lineLength fm0_nextLength am51 am52 am53 am54 am55 am56 am57 am58 am59))) x0 x9 x7))) x0 x8 x9))) x0 x7 x8)
theorem qs_wL_lawOf_264 {post : Int32 → St0 → Prop} {mc : Nat} {ms : Nat} {J193 : Int32 → Prop} {x0 : Int32} {x1 : Int32} {x7 : Int32} {x8 : Int32} {x9 : Int32} {z0 : Int32} {kc : Nat} {ks : Nat} {fm0_vertexCount : Int32} {fm0_lineLength : Int32} {fm0_nextLength : Int32} {am51 : Nat → Int32} {am52 : Nat → Int32} {am53 : Nat → Int32} {am54 : Nat → Int32} {am55 : Nat → Int32} {am56 : Nat → Int32} {am57 : Nat → Int32} {am58 : Nat → Int32} {am59 : Nat → Int32} {x0s : Int32} {postb : Int32 → St0 → Bool} {J193b : Int32 → Bool} (qh_s : qb_ok x0 x0s) (qh_post : ∀ (y0 : Int32) (y1 : St0), postb y0 y1 = true → post y0 y1) (qh_J193 : ∀ (y0 : Int32), J193b y0 = true → J193 y0) : qb_wL_lawOf_264 postb J193b x0s x7 x8 x9 z0 fm0_vertexCount fm0_lineLength fm0_nextLength am51 am52 am53 am54 am55 am56 am57 am58 am59 = true → wL_lawOf_264 post mc ms J193 x0 x1 x7 x8 x9 z0 kc ks fm0_vertexCount fm0_lineLength fm0_nextLength am51 am52 am53 am54 am55 am56 am57 am58 am59 := by
  unfold qb_wL_lawOf_264 wL_lawOf_264
  refine qs_wpL_edge qh_s ?_
  intro r_65
  refine qs_if ?_ ?_
  · exact qs_wL_lawOf_299 qh_s qh_post qh_J193
  · refine qs_wpL_edge qh_s ?_
    intro r_93
    refine qs_if ?_ ?_
    · exact qs_wL_lawOf_299 qh_s qh_post qh_J193
    · refine qs_wpL_edge qh_s ?_
      intro r_95
      refine qs_if ?_ ?_
      · exact qs_wL_lawOf_299 qh_s qh_post qh_J193
      · exact qs_wL_lawOf_332 qh_s qh_post qh_J193
noncomputable def qb_wL_lawOf_263 (post : Int32 → St0 → Bool) (J193 : Int32 → Bool) (x0 : Int32) (x7 : Int32) (x8 : Int32) (x9 : Int32) (fm0_vertexCount : Int32) (fm0_lineLength : Int32) (fm0_nextLength : Int32) (am51 : Nat → Int32) (am52 : Nat → Int32) (am53 : Nat → Int32) (am54 : Nat → Int32) (am55 : Nat → Int32) (am56 : Nat → Int32) (am57 : Nat → Int32) (am58 : Nat → Int32) (am59 : Nat → Int32) : Bool := (qb_wL_lawOf_264 post J193 x0 x7 x8 x9 0 fm0_vertexCount fm0_lineLength fm0_nextLength am51 am52 am53 am54 am55 am56 am57 am58 am59)
theorem qs_wL_lawOf_263 {post : Int32 → St0 → Prop} {mc : Nat} {ms : Nat} {J193 : Int32 → Prop} {x0 : Int32} {x1 : Int32} {x7 : Int32} {x8 : Int32} {x9 : Int32} {kc : Nat} {ks : Nat} {fm0_vertexCount : Int32} {fm0_lineLength : Int32} {fm0_nextLength : Int32} {am51 : Nat → Int32} {am52 : Nat → Int32} {am53 : Nat → Int32} {am54 : Nat → Int32} {am55 : Nat → Int32} {am56 : Nat → Int32} {am57 : Nat → Int32} {am58 : Nat → Int32} {am59 : Nat → Int32} {x0s : Int32} {postb : Int32 → St0 → Bool} {J193b : Int32 → Bool} (qh_s : qb_ok x0 x0s) (qh_post : ∀ (y0 : Int32) (y1 : St0), postb y0 y1 = true → post y0 y1) (qh_J193 : ∀ (y0 : Int32), J193b y0 = true → J193 y0) : qb_wL_lawOf_263 postb J193b x0s x7 x8 x9 fm0_vertexCount fm0_lineLength fm0_nextLength am51 am52 am53 am54 am55 am56 am57 am58 am59 = true → wL_lawOf_263 post mc ms J193 x0 x1 x7 x8 x9 kc ks fm0_vertexCount fm0_lineLength fm0_nextLength am51 am52 am53 am54 am55 am56 am57 am58 am59 := by
  unfold qb_wL_lawOf_263 wL_lawOf_263
  exact qs_wL_lawOf_264 qh_s qh_post qh_J193
noncomputable def qb_wL_lawOf_259 (post : Int32 → St0 → Bool) (J193 : Int32 → Bool) (x0 : Int32) (x7 : Int32) (x8 : Int32) (x9 : Int32) (fm0_vertexCount : Int32) (fm0_lineLength : Int32) (fm0_nextLength : Int32) (am51 : Nat → Int32) (am52 : Nat → Int32) (am53 : Nat → Int32) (am54 : Nat → Int32) (am55 : Nat → Int32) (am56 : Nat → Int32) (am57 : Nat → Int32) (am58 : Nat → Int32) (am59 : Nat → Int32) : Bool := (qb_wL_lawOf_264 post J193 x0 x7 x8 x9 1 fm0_vertexCount fm0_lineLength fm0_nextLength am51 am52 am53 am54 am55 am56 am57 am58 am59)
theorem qs_wL_lawOf_259 {post : Int32 → St0 → Prop} {mc : Nat} {ms : Nat} {J193 : Int32 → Prop} {x0 : Int32} {x1 : Int32} {x7 : Int32} {x8 : Int32} {x9 : Int32} {kc : Nat} {ks : Nat} {fm0_vertexCount : Int32} {fm0_lineLength : Int32} {fm0_nextLength : Int32} {am51 : Nat → Int32} {am52 : Nat → Int32} {am53 : Nat → Int32} {am54 : Nat → Int32} {am55 : Nat → Int32} {am56 : Nat → Int32} {am57 : Nat → Int32} {am58 : Nat → Int32} {am59 : Nat → Int32} {x0s : Int32} {postb : Int32 → St0 → Bool} {J193b : Int32 → Bool} (qh_s : qb_ok x0 x0s) (qh_post : ∀ (y0 : Int32) (y1 : St0), postb y0 y1 = true → post y0 y1) (qh_J193 : ∀ (y0 : Int32), J193b y0 = true → J193 y0) : qb_wL_lawOf_259 postb J193b x0s x7 x8 x9 fm0_vertexCount fm0_lineLength fm0_nextLength am51 am52 am53 am54 am55 am56 am57 am58 am59 = true → wL_lawOf_259 post mc ms J193 x0 x1 x7 x8 x9 kc ks fm0_vertexCount fm0_lineLength fm0_nextLength am51 am52 am53 am54 am55 am56 am57 am58 am59 := by
  unfold qb_wL_lawOf_259 wL_lawOf_259
  exact qs_wL_lawOf_264 qh_s qh_post qh_J193
noncomputable def qb_wL_lawOf_237 (post : Int32 → St0 → Bool) (J193 : Int32 → Bool) (x0 : Int32) (x7 : Int32) (x8 : Int32) (x9 : Int32) (fm0_vertexCount : Int32) (fm0_lineLength : Int32) (fm0_nextLength : Int32) (am51 : Nat → Int32) (am52 : Nat → Int32) (am53 : Nat → Int32) (am54 : Nat → Int32) (am55 : Nat → Int32) (am56 : Nat → Int32) (am57 : Nat → Int32) (am58 : Nat → Int32) (am59 : Nat → Int32) : Bool := (qb_wpL_edge (fun r_63 => (if r_63 = 0 then (qb_wL_lawOf_263 post J193 x0 x7 x8 x9 fm0_vertexCount fm0_lineLength fm0_nextLength am51 am52 am53 am54 am55 am56 am57 am58 am59) else (qb_wpL_edge (fun r_97 => (if r_97 = 0 then (qb_wL_lawOf_263 post J193 x0 x7 x8 x9 fm0_vertexCount fm0_lineLength fm0_nextLength am51 am52 am53 am54 am55 am56 am57 am58 am59) else (qb_wL_lawOf_259 post J193 x0 x7 x8 x9 fm0_vertexCount fm0_lineLength fm0_nextLength am51 am52 am53 am54 am55 am56 am57 am58 am59))) x0 x9 x7))) x0 x7 x9)
theorem qs_wL_lawOf_237 {post : Int32 → St0 → Prop} {mc : Nat} {ms : Nat} {J193 : Int32 → Prop} {x0 : Int32} {x1 : Int32} {x7 : Int32} {x8 : Int32} {x9 : Int32} {kc : Nat} {ks : Nat} {fm0_vertexCount : Int32} {fm0_lineLength : Int32} {fm0_nextLength : Int32} {am51 : Nat → Int32} {am52 : Nat → Int32} {am53 : Nat → Int32} {am54 : Nat → Int32} {am55 : Nat → Int32} {am56 : Nat → Int32} {am57 : Nat → Int32} {am58 : Nat → Int32} {am59 : Nat → Int32} {x0s : Int32} {postb : Int32 → St0 → Bool} {J193b : Int32 → Bool} (qh_s : qb_ok x0 x0s) (qh_post : ∀ (y0 : Int32) (y1 : St0), postb y0 y1 = true → post y0 y1) (qh_J193 : ∀ (y0 : Int32), J193b y0 = true → J193 y0) : qb_wL_lawOf_237 postb J193b x0s x7 x8 x9 fm0_vertexCount fm0_lineLength fm0_nextLength am51 am52 am53 am54 am55 am56 am57 am58 am59 = true → wL_lawOf_237 post mc ms J193 x0 x1 x7 x8 x9 kc ks fm0_vertexCount fm0_lineLength fm0_nextLength am51 am52 am53 am54 am55 am56 am57 am58 am59 := by
  unfold qb_wL_lawOf_237 wL_lawOf_237
  refine qs_wpL_edge qh_s ?_
  intro r_63
  refine qs_if ?_ ?_
  · exact qs_wL_lawOf_263 qh_s qh_post qh_J193
  · refine qs_wpL_edge qh_s ?_
    intro r_97
    refine qs_if ?_ ?_
    · exact qs_wL_lawOf_263 qh_s qh_post qh_J193
    · exact qs_wL_lawOf_259 qh_s qh_post qh_J193
noncomputable def qb_wL_lawOf_193 (post : Int32 → St0 → Bool) (x0 : Int32) (fm0_vertexCount : Int32) (fm0_lineLength : Int32) (fm0_nextLength : Int32) (am51 : Nat → Int32) (am52 : Nat → Int32) (am53 : Nat → Int32) (am54 : Nat → Int32) (am55 : Nat → Int32) (am56 : Nat → Int32) (am57 : Nat → Int32) (am58 : Nat → Int32) (am59 : Nat → Int32) : Nat → Int32 → Bool := fun n => @Nat.rec (fun _ => Int32 → Bool) (fun _ => false) (fun _ qih x7 => (if 3 ≤ x7 then qb_fin post fm0_vertexCount fm0_lineLength fm0_nextLength am51 am52 am53 am54 am55 am56 am57 am58 am59 else (qb_v ((x7 + 1) - (x7 + 1) / 3 * 3) (fun x8_58 => (qb_v ((x7 + 2) - (x7 + 2) / 3 * 3) (fun x9_60 => (qb_wpL_edge (fun r_61 => (if r_61 = 0 then (qb_wL_lawOf_237 post qih x0 x7 x8_58 x9_60 fm0_vertexCount fm0_lineLength fm0_nextLength am51 am52 am53 am54 am55 am56 am57 am58 am59) else (qb_wpL_edge (fun r_99 => (if r_99 = 0 then (qb_wL_lawOf_237 post qih x0 x7 x8_58 x9_60 fm0_vertexCount fm0_lineLength fm0_nextLength am51 am52 am53 am54 am55 am56 am57 am58 am59) else (qb_wL_lawOf_259 post qih x0 x7 x8_58 x9_60 fm0_vertexCount fm0_lineLength fm0_nextLength am51 am52 am53 am54 am55 am56 am57 am58 am59))) x0 x8_58 x7))) x0 x7 x8_58))))))) n
theorem qs_wL_lawOf_193 {post : Int32 → St0 → Prop} {mc : Nat} {ms : Nat} {x0 : Int32} {x1 : Int32} {kc : Nat} {ks : Nat} {fm0_vertexCount : Int32} {fm0_lineLength : Int32} {fm0_nextLength : Int32} {am51 : Nat → Int32} {am52 : Nat → Int32} {am53 : Nat → Int32} {am54 : Nat → Int32} {am55 : Nat → Int32} {am56 : Nat → Int32} {am57 : Nat → Int32} {am58 : Nat → Int32} {am59 : Nat → Int32} {x0s : Int32} {postb : Int32 → St0 → Bool} (qh_s : qb_ok x0 x0s) (qh_post : ∀ (y0 : Int32) (y1 : St0), postb y0 y1 = true → post y0 y1) : ∀ (n : Nat) (x7 : Int32), qb_wL_lawOf_193 postb x0s fm0_vertexCount fm0_lineLength fm0_nextLength am51 am52 am53 am54 am55 am56 am57 am58 am59 n x7 = true → wL_lawOf_193 post mc ms x0 x1 kc ks fm0_vertexCount fm0_lineLength fm0_nextLength am51 am52 am53 am54 am55 am56 am57 am58 am59 n x7 := by
  intro n
  induction n with
  | zero =>
    intro _
    exact fun h => absurd h Bool.false_ne_true
  | succ n ih =>
    intro x7
    refine qs_if ?_ ?_
    · exact qs_fin qh_post
    · refine qs_n3 ?_
      refine qs_v (fun x8_58 => ?_)
      refine qs_n3 ?_
      refine qs_v (fun x9_60 => ?_)
      refine qs_wpL_edge qh_s ?_
      intro r_61
      refine qs_if ?_ ?_
      · exact qs_wL_lawOf_237 qh_s qh_post ih
      · refine qs_wpL_edge qh_s ?_
        intro r_99
        refine qs_if ?_ ?_
        · exact qs_wL_lawOf_237 qh_s qh_post ih
        · exact qs_wL_lawOf_259 qh_s qh_post ih
noncomputable def qb_wL_lawOf_115 (post : Int32 → St0 → Bool) (J51 : Int32 → Int32 → Int32 → Int32 → Int32 → Int32 → Int32 → (Nat → Int32) → (Nat → Int32) → (Nat → Int32) → (Nat → Int32) → (Nat → Int32) → (Nat → Int32) → (Nat → Int32) → (Nat → Int32) → (Nat → Int32) → Bool) (J60 : Int32 → Int32 → Int32 → Int32 → Int32 → Int32 → Int32 → (Nat → Int32) → (Nat → Int32) → (Nat → Int32) → (Nat → Int32) → (Nat → Int32) → (Nat → Int32) → (Nat → Int32) → (Nat → Int32) → (Nat → Int32) → Bool) (x0 : Int32) (x3 : Int32) (x4 : Int32) (x5 : Int32) (x6 : Int32) (x7 : Int32) (x8 : Int32) (fm0_vertexCount : Int32) (fm0_lineLength : Int32) (fm0_nextLength : Int32) (am51 : Nat → Int32) (am52 : Nat → Int32) (am53 : Nat → Int32) (am54 : Nat → Int32) (am55 : Nat → Int32) (am56 : Nat → Int32) (am57 : Nat → Int32) (am58 : Nat → Int32) (am59 : Nat → Int32) : Bool := (qb_wpL_reach (fun r_105 => (if r_105 = 0 then (qb_wpL_reach (fun r_108 => (if r_108 = 0 then (qb_v (x8 + 1) (fun x8_111 => (J60 x4 x5 0 x8_111 fm0_vertexCount fm0_lineLength fm0_nextLength am51 am52 am53 am54 am55 am56 am57 am58 am59))) else (qb_v (x8 + 1) (fun x8_110 => (J60 x4 x5 x6 x8_110 fm0_vertexCount fm0_lineLength fm0_nextLength am51 am52 am53 am54 am55 am56 am57 am58 am59))))) x0 x8 x7) else (qb_v (x8 + 1) (fun x8_107 => (J60 x4 x5 x6 x8_107 fm0_vertexCount fm0_lineLength fm0_nextLength am51 am52 am53 am54 am55 am56 am57 am58 am59))))) x0 x7 x8)
theorem qs_wL_lawOf_115 {post : Int32 → St0 → Prop} {mc : Nat} {ms : Nat} {J51 : Int32 → Int32 → Int32 → Int32 → Int32 → Int32 → Int32 → (Nat → Int32) → (Nat → Int32) → (Nat → Int32) → (Nat → Int32) → (Nat → Int32) → (Nat → Int32) → (Nat → Int32) → (Nat → Int32) → (Nat → Int32) → Prop} {J60 : Int32 → Int32 → Int32 → Int32 → Int32 → Int32 → Int32 → (Nat → Int32) → (Nat → Int32) → (Nat → Int32) → (Nat → Int32) → (Nat → Int32) → (Nat → Int32) → (Nat → Int32) → (Nat → Int32) → (Nat → Int32) → Prop} {x0 : Int32} {x1 : Int32} {x3 : Int32} {x4 : Int32} {x5 : Int32} {x6 : Int32} {x7 : Int32} {x8 : Int32} {kc : Nat} {ks : Nat} {fm0_vertexCount : Int32} {fm0_lineLength : Int32} {fm0_nextLength : Int32} {am51 : Nat → Int32} {am52 : Nat → Int32} {am53 : Nat → Int32} {am54 : Nat → Int32} {am55 : Nat → Int32} {am56 : Nat → Int32} {am57 : Nat → Int32} {am58 : Nat → Int32} {am59 : Nat → Int32} {x0s : Int32} {postb : Int32 → St0 → Bool} {J51b : Int32 → Int32 → Int32 → Int32 → Int32 → Int32 → Int32 → (Nat → Int32) → (Nat → Int32) → (Nat → Int32) → (Nat → Int32) → (Nat → Int32) → (Nat → Int32) → (Nat → Int32) → (Nat → Int32) → (Nat → Int32) → Bool} {J60b : Int32 → Int32 → Int32 → Int32 → Int32 → Int32 → Int32 → (Nat → Int32) → (Nat → Int32) → (Nat → Int32) → (Nat → Int32) → (Nat → Int32) → (Nat → Int32) → (Nat → Int32) → (Nat → Int32) → (Nat → Int32) → Bool} (qh_s : qb_ok x0 x0s) (qh_post : ∀ (y0 : Int32) (y1 : St0), postb y0 y1 = true → post y0 y1) (qh_J51 : ∀ (y0 : Int32) (y1 : Int32) (y2 : Int32) (y3 : Int32) (y4 : Int32) (y5 : Int32) (y6 : Int32) (y7 : (Nat → Int32)) (y8 : (Nat → Int32)) (y9 : (Nat → Int32)) (y10 : (Nat → Int32)) (y11 : (Nat → Int32)) (y12 : (Nat → Int32)) (y13 : (Nat → Int32)) (y14 : (Nat → Int32)) (y15 : (Nat → Int32)), J51b y0 y1 y2 y3 y4 y5 y6 y7 y8 y9 y10 y11 y12 y13 y14 y15 = true → J51 y0 y1 y2 y3 y4 y5 y6 y7 y8 y9 y10 y11 y12 y13 y14 y15) (qh_J60 : ∀ (y0 : Int32) (y1 : Int32) (y2 : Int32) (y3 : Int32) (y4 : Int32) (y5 : Int32) (y6 : Int32) (y7 : (Nat → Int32)) (y8 : (Nat → Int32)) (y9 : (Nat → Int32)) (y10 : (Nat → Int32)) (y11 : (Nat → Int32)) (y12 : (Nat → Int32)) (y13 : (Nat → Int32)) (y14 : (Nat → Int32)) (y15 : (Nat → Int32)), J60b y0 y1 y2 y3 y4 y5 y6 y7 y8 y9 y10 y11 y12 y13 y14 y15 = true → J60 y0 y1 y2 y3 y4 y5 y6 y7 y8 y9 y10 y11 y12 y13 y14 y15) : qb_wL_lawOf_115 postb J51b J60b x0s x3 x4 x5 x6 x7 x8 fm0_vertexCount fm0_lineLength fm0_nextLength am51 am52 am53 am54 am55 am56 am57 am58 am59 = true → wL_lawOf_115 post mc ms J51 J60 x0 x1 x3 x4 x5 x6 x7 x8 kc ks fm0_vertexCount fm0_lineLength fm0_nextLength am51 am52 am53 am54 am55 am56 am57 am58 am59 := by
  unfold qb_wL_lawOf_115 wL_lawOf_115
  refine qs_wpL_reach qh_s ?_
  intro r_105
  refine qs_if ?_ ?_
  · refine qs_wpL_reach qh_s ?_
    intro r_108
    refine qs_if ?_ ?_
    · refine qs_v (fun x8_111 => ?_)
      exact qh_J60 _ _ _ _ _ _ _ _ _ _ _ _ _ _ _ _
    · refine qs_v (fun x8_110 => ?_)
      exact qh_J60 _ _ _ _ _ _ _ _ _ _ _ _ _ _ _ _
  · refine qs_v (fun x8_107 => ?_)
    exact qh_J60 _ _ _ _ _ _ _ _ _ _ _ _ _ _ _ _
noncomputable def qb_wL_lawOf_60 (post : Int32 → St0 → Bool) (J51 : Int32 → Int32 → Int32 → Int32 → Int32 → Int32 → Int32 → (Nat → Int32) → (Nat → Int32) → (Nat → Int32) → (Nat → Int32) → (Nat → Int32) → (Nat → Int32) → (Nat → Int32) → (Nat → Int32) → (Nat → Int32) → Bool) (x0 : Int32) (x3 : Int32) (x7 : Int32) : Nat → Int32 → Int32 → Int32 → Int32 → Int32 → Int32 → Int32 → (Nat → Int32) → (Nat → Int32) → (Nat → Int32) → (Nat → Int32) → (Nat → Int32) → (Nat → Int32) → (Nat → Int32) → (Nat → Int32) → (Nat → Int32) → Bool := fun n => @Nat.rec (fun _ => Int32 → Int32 → Int32 → Int32 → Int32 → Int32 → Int32 → (Nat → Int32) → (Nat → Int32) → (Nat → Int32) → (Nat → Int32) → (Nat → Int32) → (Nat → Int32) → (Nat → Int32) → (Nat → Int32) → (Nat → Int32) → Bool) (fun _ _ _ _ _ _ _ _ _ _ _ _ _ _ _ _ => false) (fun _ qih x4 x5 x6 x8 fm0_vertexCount fm0_lineLength fm0_nextLength am51 am52 am53 am54 am55 am56 am57 am58 am59 => (if 3 ≤ x8 then (qb_v (x7 + 1) (fun x7_102 => (J51 x4 x5 x6 x7_102 fm0_vertexCount fm0_lineLength fm0_nextLength am51 am52 am53 am54 am55 am56 am57 am58 am59))) else (qb_wpL_edge (fun r_103 => (if r_103 = 0 then (qb_wL_lawOf_115 post J51 qih x0 x3 x4 x5 x6 x7 x8 fm0_vertexCount fm0_lineLength fm0_nextLength am51 am52 am53 am54 am55 am56 am57 am58 am59) else (qb_wpX_addEdge (fun r_112 u => match u with | (fm0_vertexCount_113, fm0_lineLength_114, fm0_nextLength_115, am821_118, am822_121, am823_124, am824_127, am825_130, am826_133, am827_136, am828_139, am829_142) => (if 0 ≤ r_112 then (qb_v (x4 + r_112) (fun x4_144 => (qb_wpL_both (fun r_145 => (if r_145 = 0 then (qb_v (x5 + 1) (fun x5_147 => (qb_wL_lawOf_115 post J51 qih x0 x3 x4_144 x5_147 x6 x7 x8 fm0_vertexCount_113 fm0_lineLength_114 fm0_nextLength_115 am821_118 am822_121 am823_124 am824_127 am825_130 am826_133 am827_136 am828_139 am829_142))) else (qb_wL_lawOf_115 post J51 qih x0 x3 x4_144 x5 x6 x7 x8 fm0_vertexCount_113 fm0_lineLength_114 fm0_nextLength_115 am821_118 am822_121 am823_124 am824_127 am825_130 am826_133 am827_136 am828_139 am829_142))) x0 x7 x8))) else (post 0 ()))) (fm0_vertexCount, fm0_lineLength, fm0_nextLength, am51, am52, am53, am54, am55, am56, am57, am58, am59) x7 x8))) x0 x7 x8))) n
theorem qs_wL_lawOf_60 {post : Int32 → St0 → Prop} {mc : Nat} {ms : Nat} {J51 : Int32 → Int32 → Int32 → Int32 → Int32 → Int32 → Int32 → (Nat → Int32) → (Nat → Int32) → (Nat → Int32) → (Nat → Int32) → (Nat → Int32) → (Nat → Int32) → (Nat → Int32) → (Nat → Int32) → (Nat → Int32) → Prop} {x0 : Int32} {x1 : Int32} {x3 : Int32} {x7 : Int32} {kc : Nat} {ks : Nat} {x0s : Int32} {postb : Int32 → St0 → Bool} {J51b : Int32 → Int32 → Int32 → Int32 → Int32 → Int32 → Int32 → (Nat → Int32) → (Nat → Int32) → (Nat → Int32) → (Nat → Int32) → (Nat → Int32) → (Nat → Int32) → (Nat → Int32) → (Nat → Int32) → (Nat → Int32) → Bool} (qh_s : qb_ok x0 x0s) (qh_post : ∀ (y0 : Int32) (y1 : St0), postb y0 y1 = true → post y0 y1) (qh_J51 : ∀ (y0 : Int32) (y1 : Int32) (y2 : Int32) (y3 : Int32) (y4 : Int32) (y5 : Int32) (y6 : Int32) (y7 : (Nat → Int32)) (y8 : (Nat → Int32)) (y9 : (Nat → Int32)) (y10 : (Nat → Int32)) (y11 : (Nat → Int32)) (y12 : (Nat → Int32)) (y13 : (Nat → Int32)) (y14 : (Nat → Int32)) (y15 : (Nat → Int32)), J51b y0 y1 y2 y3 y4 y5 y6 y7 y8 y9 y10 y11 y12 y13 y14 y15 = true → J51 y0 y1 y2 y3 y4 y5 y6 y7 y8 y9 y10 y11 y12 y13 y14 y15) : ∀ (n : Nat) (x4 : Int32) (x5 : Int32) (x6 : Int32) (x8 : Int32) (fm0_vertexCount : Int32) (fm0_lineLength : Int32) (fm0_nextLength : Int32) (am51 : (Nat → Int32)) (am52 : (Nat → Int32)) (am53 : (Nat → Int32)) (am54 : (Nat → Int32)) (am55 : (Nat → Int32)) (am56 : (Nat → Int32)) (am57 : (Nat → Int32)) (am58 : (Nat → Int32)) (am59 : (Nat → Int32)), qb_wL_lawOf_60 postb J51b x0s x3 x7 n x4 x5 x6 x8 fm0_vertexCount fm0_lineLength fm0_nextLength am51 am52 am53 am54 am55 am56 am57 am58 am59 = true → wL_lawOf_60 post mc ms J51 x0 x1 x3 x7 kc ks n x4 x5 x6 x8 fm0_vertexCount fm0_lineLength fm0_nextLength am51 am52 am53 am54 am55 am56 am57 am58 am59 := by
  intro n
  induction n with
  | zero =>
    intro _ _ _ _ _ _ _ _ _ _ _ _ _ _ _ _
    exact fun h => absurd h Bool.false_ne_true
  | succ n ih =>
    intro x4 x5 x6 x8 fm0_vertexCount fm0_lineLength fm0_nextLength am51 am52 am53 am54 am55 am56 am57 am58 am59
    refine qs_if ?_ ?_
    · refine qs_v (fun x7_102 => ?_)
      exact qh_J51 _ _ _ _ _ _ _ _ _ _ _ _ _ _ _ _
    · refine qs_wpL_edge qh_s ?_
      intro r_103
      refine qs_if ?_ ?_
      · exact qs_wL_lawOf_115 qh_s qh_post qh_J51 ih
      · refine qs_wpX_addEdge ?_
        rintro r_112 ⟨fm0_vertexCount_113, fm0_lineLength_114, fm0_nextLength_115, am821_118, am822_121, am823_124, am824_127, am825_130, am826_133, am827_136, am828_139, am829_142⟩
        refine qs_if ?_ ?_
        · refine qs_v (fun x4_144 => ?_)
          refine qs_wpL_both qh_s ?_
          intro r_145
          refine qs_if ?_ ?_
          · refine qs_v (fun x5_147 => ?_)
            exact qs_wL_lawOf_115 qh_s qh_post qh_J51 ih
          · exact qs_wL_lawOf_115 qh_s qh_post qh_J51 ih
        · exact qh_post _ _
noncomputable def qb_wL_lawOf_51 (post : Int32 → St0 → Bool) (x0 : Int32) (x3 : Int32) : Nat → Int32 → Int32 → Int32 → Int32 → Int32 → Int32 → Int32 → (Nat → Int32) → (Nat → Int32) → (Nat → Int32) → (Nat → Int32) → (Nat → Int32) → (Nat → Int32) → (Nat → Int32) → (Nat → Int32) → (Nat → Int32) → Bool := fun n => @Nat.rec (fun _ => Int32 → Int32 → Int32 → Int32 → Int32 → Int32 → Int32 → (Nat → Int32) → (Nat → Int32) → (Nat → Int32) → (Nat → Int32) → (Nat → Int32) → (Nat → Int32) → (Nat → Int32) → (Nat → Int32) → (Nat → Int32) → Bool) (fun _ _ _ _ _ _ _ _ _ _ _ _ _ _ _ _ => false) (fun _ qih x4 x5 x6 x7 fm0_vertexCount fm0_lineLength fm0_nextLength am51 am52 am53 am54 am55 am56 am57 am58 am59 => (if 3 ≤ x7 then (qb_wpX_components (fun r_45 => (if r_45 = x3 then (if x4 = (3 - x3) then (qb_wpX_outerEdges (fun r_48 => (if r_48 = x5 then (qb_wpX_inOneLine (fun r_50 => (if r_50 = x6 then (qb_wL_lawOf_193 post x0 fm0_vertexCount fm0_lineLength fm0_nextLength am51 am52 am53 am54 am55 am56 am57 am58 am59 20 0) else (post 0 ()))) (fm0_vertexCount, fm0_lineLength, fm0_nextLength, am51, am52, am53, am54, am55, am56, am57, am58, am59)) else (post 0 ()))) (fm0_vertexCount, fm0_lineLength, fm0_nextLength, am51, am52, am53, am54, am55, am56, am57, am58, am59)) else (post 0 ())) else (post 0 ()))) (fm0_vertexCount, fm0_lineLength, fm0_nextLength, am51, am52, am53, am54, am55, am56, am57, am58, am59)) else (qb_wL_lawOf_60 post qih x0 x3 x7 20 x4 x5 x6 0 fm0_vertexCount fm0_lineLength fm0_nextLength am51 am52 am53 am54 am55 am56 am57 am58 am59))) n
theorem qs_wL_lawOf_51 {post : Int32 → St0 → Prop} {mc : Nat} {ms : Nat} {x0 : Int32} {x1 : Int32} {x3 : Int32} {kc : Nat} {ks : Nat} {x0s : Int32} {postb : Int32 → St0 → Bool} (qh_s : qb_ok x0 x0s) (qh_post : ∀ (y0 : Int32) (y1 : St0), postb y0 y1 = true → post y0 y1) : ∀ (n : Nat) (x4 : Int32) (x5 : Int32) (x6 : Int32) (x7 : Int32) (fm0_vertexCount : Int32) (fm0_lineLength : Int32) (fm0_nextLength : Int32) (am51 : (Nat → Int32)) (am52 : (Nat → Int32)) (am53 : (Nat → Int32)) (am54 : (Nat → Int32)) (am55 : (Nat → Int32)) (am56 : (Nat → Int32)) (am57 : (Nat → Int32)) (am58 : (Nat → Int32)) (am59 : (Nat → Int32)), qb_wL_lawOf_51 postb x0s x3 n x4 x5 x6 x7 fm0_vertexCount fm0_lineLength fm0_nextLength am51 am52 am53 am54 am55 am56 am57 am58 am59 = true → wL_lawOf_51 post mc ms x0 x1 x3 kc ks n x4 x5 x6 x7 fm0_vertexCount fm0_lineLength fm0_nextLength am51 am52 am53 am54 am55 am56 am57 am58 am59 := by
  intro n
  induction n with
  | zero =>
    intro _ _ _ _ _ _ _ _ _ _ _ _ _ _ _ _
    exact fun h => absurd h Bool.false_ne_true
  | succ n ih =>
    intro x4 x5 x6 x7 fm0_vertexCount fm0_lineLength fm0_nextLength am51 am52 am53 am54 am55 am56 am57 am58 am59
    refine qs_if ?_ ?_
    · refine qs_wpX_components ?_
      intro r_45
      refine qs_if ?_ ?_
      · refine qs_if ?_ ?_
        · refine qs_wpX_outerEdges ?_
          intro r_48
          refine qs_if ?_ ?_
          · refine qs_wpX_inOneLine ?_
            intro r_50
            refine qs_if ?_ ?_
            · refine qs_ex 20 ?_
              exact qs_wL_lawOf_193 qh_s qh_post _ _
            · exact qh_post _ _
          · exact qh_post _ _
        · exact qh_post _ _
      · exact qh_post _ _
    · refine qs_ex 20 ?_
      exact qs_wL_lawOf_60 qh_s qh_post ih _ _ _ _ _ _ _ _ _ _ _ _ _ _ _ _ _
noncomputable def qb_wL_lawOf_37 (post : Int32 → St0 → Bool) (x0 : Int32) (z0 : Int32) (z1 : Int32) (fm0_vertexCount : Int32) (fm0_lineLength : Int32) (fm0_nextLength : Int32) (am51 : Nat → Int32) (am52 : Nat → Int32) (am53 : Nat → Int32) (am54 : Nat → Int32) (am55 : Nat → Int32) (am56 : Nat → Int32) (am57 : Nat → Int32) (am58 : Nat → Int32) (am59 : Nat → Int32) : Bool := (qb_v (z1 + z0) (fun x3_43 => (qb_wL_lawOf_51 post x0 x3_43 20 0 0 1 0 fm0_vertexCount fm0_lineLength fm0_nextLength am51 am52 am53 am54 am55 am56 am57 am58 am59)))
theorem qs_wL_lawOf_37 {post : Int32 → St0 → Prop} {mc : Nat} {ms : Nat} {x0 : Int32} {x1 : Int32} {z0 : Int32} {z1 : Int32} {kc : Nat} {ks : Nat} {fm0_vertexCount : Int32} {fm0_lineLength : Int32} {fm0_nextLength : Int32} {am51 : Nat → Int32} {am52 : Nat → Int32} {am53 : Nat → Int32} {am54 : Nat → Int32} {am55 : Nat → Int32} {am56 : Nat → Int32} {am57 : Nat → Int32} {am58 : Nat → Int32} {am59 : Nat → Int32} {x0s : Int32} {postb : Int32 → St0 → Bool} (qh_s : qb_ok x0 x0s) (qh_post : ∀ (y0 : Int32) (y1 : St0), postb y0 y1 = true → post y0 y1) : qb_wL_lawOf_37 postb x0s z0 z1 fm0_vertexCount fm0_lineLength fm0_nextLength am51 am52 am53 am54 am55 am56 am57 am58 am59 = true → wL_lawOf_37 post mc ms x0 x1 z0 z1 kc ks fm0_vertexCount fm0_lineLength fm0_nextLength am51 am52 am53 am54 am55 am56 am57 am58 am59 := by
  unfold qb_wL_lawOf_37 wL_lawOf_37
  refine qs_v (fun x3_43 => ?_)
  refine qs_ex 20 ?_
  exact qs_wL_lawOf_51 qh_s qh_post _ _ _ _ _ _ _ _ _ _ _ _ _ _ _ _ _
noncomputable def qb_wL_lawOf_23 (post : Int32 → St0 → Bool) (x0 : Int32) (z0 : Int32) (fm0_vertexCount : Int32) (fm0_lineLength : Int32) (fm0_nextLength : Int32) (am51 : Nat → Int32) (am52 : Nat → Int32) (am53 : Nat → Int32) (am54 : Nat → Int32) (am55 : Nat → Int32) (am56 : Nat → Int32) (am57 : Nat → Int32) (am58 : Nat → Int32) (am59 : Nat → Int32) : Bool := (qb_wpL_leader (fun r_41 => (if r_41 = 2 then (qb_wL_lawOf_37 post x0 1 z0 fm0_vertexCount fm0_lineLength fm0_nextLength am51 am52 am53 am54 am55 am56 am57 am58 am59) else (qb_wL_lawOf_37 post x0 0 z0 fm0_vertexCount fm0_lineLength fm0_nextLength am51 am52 am53 am54 am55 am56 am57 am58 am59))) x0 2)
theorem qs_wL_lawOf_23 {post : Int32 → St0 → Prop} {mc : Nat} {ms : Nat} {x0 : Int32} {x1 : Int32} {z0 : Int32} {kc : Nat} {ks : Nat} {fm0_vertexCount : Int32} {fm0_lineLength : Int32} {fm0_nextLength : Int32} {am51 : Nat → Int32} {am52 : Nat → Int32} {am53 : Nat → Int32} {am54 : Nat → Int32} {am55 : Nat → Int32} {am56 : Nat → Int32} {am57 : Nat → Int32} {am58 : Nat → Int32} {am59 : Nat → Int32} {x0s : Int32} {postb : Int32 → St0 → Bool} (qh_s : qb_ok x0 x0s) (qh_post : ∀ (y0 : Int32) (y1 : St0), postb y0 y1 = true → post y0 y1) : qb_wL_lawOf_23 postb x0s z0 fm0_vertexCount fm0_lineLength fm0_nextLength am51 am52 am53 am54 am55 am56 am57 am58 am59 = true → wL_lawOf_23 post mc ms x0 x1 z0 kc ks fm0_vertexCount fm0_lineLength fm0_nextLength am51 am52 am53 am54 am55 am56 am57 am58 am59 := by
  unfold qb_wL_lawOf_23 wL_lawOf_23
  refine qs_wpL_leader qh_s ?_
  intro r_41
  refine qs_if ?_ ?_
  · exact qs_wL_lawOf_37 qh_s qh_post
  · exact qs_wL_lawOf_37 qh_s qh_post
end
section
/-- the whole law, run on a set -/
noncomputable def qb_law (s : Int32) : Bool :=
  qb_wX_init_103 (fun u => match u with | (f0, f1, f2, a1, a2, a3, a4, a5, a6, a7, a8, a9) => qb_wpL_leader (fun r => if r = 1 then qb_wL_lawOf_23 (fun r _ => decide (r = 1)) s 2 f0 f1 f2 a1 a2 a3 a4 a5 a6 a7 a8 a9 else qb_wL_lawOf_23 (fun r _ => decide (r = 1)) s 1 f0 f1 f2 a1 a2 a3 a4 a5 a6 a7 a8 a9) s 1) 3 0 0 20 0 (fun _ => 0) (fun _ => 0) (fun _ => 0) (fun _ => 0) (fun _ => 0) (fun _ => 0) (fun _ => 0) (fun _ => 0) (fun _ => 0)
theorem qs_init {post : St2 → Prop} {postb : St2 → Bool} (qh_post : ∀ (y0 : St2), postb y0 = true → post y0) : qb_wX_init_103 postb 3 0 0 20 0 (fun _ => 0) (fun _ => 0) (fun _ => 0) (fun _ => 0) (fun _ => 0) (fun _ => 0) (fun _ => 0) (fun _ => 0) (fun _ => 0) = true → wpX_init post 9 144 (0, 0, 0) 3 := by
  intro h
  have g := qs_wX_init_103 (mc := 9) (ms := 144) (kc := 9) (ks := 144) qh_post _ _ _ _ _ _ _ _ _ _ _ h
  refine ⟨by decide, by decide, by decide, by decide, by decide, by decide, by decide, by decide, by decide, by decide, by decide, by decide, by decide, by decide, by decide, by decide, by decide, by decide, ?_⟩
  exact br_t (by decide) (br_t (by decide) ⟨20, g⟩)
theorem qs_law {x w s : Int32} (qh_s : qb_ok x s) : qb_law s = true → wpL_lawOf (fun r _ => r = 1) 10 156 () x w := by
  intro h
  refine ⟨by decide, by decide, 9, 144, by decide, by decide, ?_⟩
  revert h
  refine qs_init ?_
  rintro ⟨f0, f1, f2, a1, a2, a3, a4, a5, a6, a7, a8, a9⟩
  refine qs_wpL_leader qh_s ?_
  intro r
  have K : ∀ (r : Int32) (u : St0), decide (r = 1) = true → r = 1 := fun r _ hr => of_decide_eq_true hr
  exact qs_if (qs_wL_lawOf_23 qh_s K) (qs_wL_lawOf_23 qh_s K)
theorem qs_mask (x : Int32) : qb_ok x (x &&& 238) := by
  intro k hk
  have e : ((238 : Int32) >>> k) &&& 1 = 1 := by
    unfold qb_key at hk
    simp only [Bool.or_eq_true, decide_eq_true_eq] at hk
    rcases hk with ((((z | z) | z) | z) | z) | z <;> subst z <;> decide
  rw [Int32.shiftRight_and, Int32.and_assoc, e]
end
section
theorem qs_run : ∀ n, n < 239 → n &&& 238 = n → qb_law (nI n) = true := by decide +kernel
end
section
theorem qs_all (x : Int32) : qb_law (x &&& 238) = true := by
  have e := qb_nI (x &&& 238)
  have h1 : (x &&& 238).toBitVec.toNat = x.toBitVec.toNat &&& 238 := by
    rw [Int32.toBitVec_and, BitVec.toNat_and]
    rfl
  rw [← e]
  refine qs_run _ ?_ ?_
  · rw [h1]
    have := @Nat.and_le_right x.toBitVec.toNat 238
    omega
  · rw [h1, Nat.and_assoc]
    rfl
theorem qs_cell {post : Int32 → Prop} {L : Nat} {xs : Nat → Int32} {u : St0} {p : Nat} (hL : L ≤ 2) (hp : p < 2) (H : ∀ x, post x) : wpL_cellAt post L xs u (nI p) :=
  pk_le L p (fun _ => H _) (fun z => ⟨vp_in_nI z (by omega), H _⟩)
theorem i_vc (xs : Nat → Int32) (L : Nat) (hL : L ≤ 2) : wpL_law (fun r => r = 1) L xs := by
  unfold wpL_law
  refine qs_cell (p := 0) hL (by omega) (fun x => ?_)
  refine qs_cell (p := 1) hL (by omega) (fun w => ?_)
  exact ⟨10, 156, by decide, by decide, qs_law (qs_mask x) (qs_all x)⟩
end
