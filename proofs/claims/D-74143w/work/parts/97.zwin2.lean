/-! Windows.next through the interface -/
set_option maxRecDepth 100000
set_option maxHeartbeats 8000000 in
theorem m_X13_next (lau : Launch) (s0 : State) (G : zG) (sz : Nat) (ad : Nat → Nat) (F : Nat → Int) (Ar : Nat → Nat → Int) (kp : Nat → Nat) (pl : Nat → Option Nat) (PW : va_W) (n : Nat) (v : Nat → Nat) (pr : Nat → Nat) (pa : Nat → Nat) (pm : Nat → Nat) (pf : Nat → Nat → Nat) (nw : Nat) (b : Nat) (t : Nat) (wi wd wl : Nat) (hn : n ≤ 120) (hFn : F 200 = (n : Int)) (hv : ∀ i, i < n → v i < 1000) (hAv : ∀ i, i < n → Ar 201 i = (v i : Int)) (hb : 2 ≤ b ∧ b ≤ 20) (hFb : F 7 = (b : Int)) (ht : t < 4) (hFt : F 8 = (t : Int)) (hpl : ∀ y, y < 1000 → (pl y = some (pr y) ∨ (pl y = none ∧ pr y = nw))) (hnw : zNwh s0 nw) (hpc : ∀ y, y < 1000 → PlC n v y (pm y) (pf y)) (hpp : zPool s0 G PW pr pa pm pf) (hmo : ∀ i j, i ≤ j → b * j < n → Ar 12 (60 * i + j) = (md v (b * i) (bEnd b j n) t : Int)) (hwd : 1 ≤ wd) (hw : wl + wd ≤ n) (hB : zBxs s0) :
    zMet (S := WNS) lau yX13_next cX13_next 1 (some (.object "java/lang/Object")) 7 180 1 1 s0 G sz [.ref wi] (dW ad G F (va_up Ar 16 zZ) kp pl (PW ++ [(wi, .inr (12, [.int (iZ (wd : Int)), .int (iZ (wl : Int)), .ref (ad 99)]))])) (fun u => some (.ref u.2.1)) (fun u => zBN s0 u.2.1 ((md v wl (wl + wd) t : Nat) : Int) u.2.2) (fun u => dW ad G (va_up F 17 ((u.1.1 : Int))) (va_up (va_up Ar 15 (cI (u.1.1) u.1.2.1 u.1.2.2)) 16 zZ) kp pl ((PW ++ [(wi, .inr (12, [.int (iZ (wd : Int)), .int (iZ ((wl + 1 : Nat) : Int)), .ref (ad 99)]))]) ++ u.2.2)) := by
  refine zMet.of (by decide) (Nat.le_of_ble_eq_true rfl) ?_
  intro pg ev s1 mi ar bl me cd ls Q as0 hC hH hl hQ hsz
  generalize s1.heap = H at hH ⊢
  generalize ([] : List Loc) = locs at hH ⊢
  have hl : lv_has ls 1 [(0, .ref wi)] := hl
  refine z_aload_n hC 0 hl dX13_next_0 rfl 0 rfl ?_
  refine z_same (z_runV hC hH.2.2 hl.1 hH.1 hH.2.1 0 (As := []) (rest := []) (m_X13_next_2 lau s0 G _ ad F Ar kp pl PW n v pr pa pm pf nw b t wi wd wl hn hFn hv hAv hb hFb ht hFt hpl hnw hpc hpp hmo hwd hw hB) (lw_V q982 q983 q984 q120 q985) ⟨rfl, by decide, by decide, by decide +kernel⟩ (q0 := 60 + PW.length) (ci := 12) dW_x rfl rfl rfl (Nat.le_of_ble_eq_true rfl) ⟨Nat.le_of_ble_eq_true rfl, Nat.le_of_ble_eq_true rfl⟩ ⟨Nat.le_of_ble_eq_true rfl, Nat.le_of_ble_eq_true rfl⟩ dX13_next_1) hH (fun u H locs hpost hH => ?_)
  refine z_st (st' := [.ref u.2.1]) rfl ?_
  exact z_aret hC hH hQ 4 u dX13_next_4 rfl hpost rfl (Nat.le_of_ble_eq_true rfl) (Nat.le_of_ble_eq_true rfl)
section ZUNB
variable {pg : Program} {l : Launch} {ev : Env} {R : Room} {s0 s : State} {m : MethodId} {ar : Array Value} {bl : List Frame} {me : Method} {c : Code} {H : Heap} {locs : List Loc} {ce sl : Nat} {Q : State → Prop} {G : zG} {cc : ByteArray} {nL : Nat} {own : String} {ret : Option FieldType} {ls : Array Slot} {st : List Value} {as0 : List Nat} {w : va_W}
/-- checkcast and intValue of a box, cached or made -/
theorem zBN_recv (C : zC pg s0 s m ar me c G cc nL own ret) {X : va_W} (hH : zH s0 s G as0 (w ++ X) H locs) {y : Nat} {z : Int} (hB : zBN s0 y z X) : ∃ cell : Cell, H[y]? = some cell ∧ cell.vm.isStatics = false ∧ s.vm.findClass RJ16 = some cell.cls := by
  rcases hB with ⟨_, hB⟩ | rfl
  · exact va_Orecv (zO_up (as0 := as0) C hB.1) hH.2.2
  · exact va_recv (q0 := 0) C.2.2.2.2.2 (va_P_r hH.1) (show vwCl[20]? = some (RJ16, TJ16, 1) from rfl) rfl
theorem z_castN (C : zC pg s0 s m ar me c G cc nL own ret) {X : va_W} (hH : zH s0 s G as0 (w ++ X) H locs) (pc : Nat) {idx y : Nat} {z : Int} (hB : zBN s0 y z X) (hq : Cond.classLink own idx RJ16 ∈ lw_all) (hdg : decode cc pc = .ok (.checkcast idx, 3)) (kk : W pg l ev R s m ar bl me c H locs ce sl Q (F0 m (pc + 3) ls (.ref y :: st))) : W pg l ev R s m ar bl me c H locs ce sl Q (F0 m pc ls (.ref y :: st)) :=
  va_castE C.1.1 C.1.2.1 C.1.2.2.2.1 (C.1.2.2.2.2 _ hq) (zBN_recv C hH hB) hdg kk
theorem z_intVN (C : zC pg s0 s m ar me c G cc nL own ret) {X : va_W} (hH : zH s0 s G as0 (w ++ X) H locs) (hlz : ls.size = nL) {b : Nat} {z : Int} (hB : zBN s0 b z X) (pc : Nat) {idx : Nat} (hq : Cond.methodLink own idx yJ16_intValue ∈ lw_all) {rest : List Value} (hW : (rest.map fun v => v.category).sum ≤ 8) (hR : 0 + 1 ≤ R.frames ∧ 8 + (1 + 11) + 0 ≤ R.locals) (hf : ce + 0 ≤ R.cells ∧ sl + 0 ≤ R.slots) (hdg : decode cc pc = .ok (.invokevirtual idx, 3)) (kk : W pg l ev R s m ar bl me c H locs ce sl Q (F0 m (pc + 3) ls (.int (iZ z) :: rest))) : W pg l ev R s m ar bl me c H locs ce sl Q (F0 m pc ls (.ref b :: rest)) := by
  rcases hB with ⟨_, hB⟩ | rfl
  · exact z_intV C hH.2.2 hlz hB pc hq hW hR hf hdg kk
  · exact zp_back (zp_runV C hH.2.2 hlz (va_P_r hH.1) 0 (As := []) (u_J16_intValue_n l s0 G b z) (lw_V hq q1020 q1021 q117 q1022) ⟨rfl, by decide, by decide, by decide +kernel⟩ (q0 := 0) (ci := 20) rfl rfl rfl rfl hW hR hf hdg) (fun _ _ => kk)
end ZUNB
