/-! ReadSideLaw.law([I)Z -/
def f_law_law_b1621 (k43 : Nat → Nat → Nat → Nat → Int32 → xM Int32) (l0 : Nat) (l1 : Nat) (l2 : Nat) (l3 : Nat) (l4 : Int32) : xM Int32 :=
  k43 l0 l1 l2 l3 (l4 + 8)
def f_law_law_b1618 (k43 : Nat → Nat → Nat → Nat → Int32 → xM Int32) (l0 : Nat) (l1 : Nat) (l2 : Nat) (l3 : Nat) (l4 : Int32) : xM Int32 :=
  f_law_law_b1621 k43 l0 l1 l2 l3 l4
def f_law_law_b1565 (k43 : Nat → Nat → Nat → Nat → Int32 → xM Int32) (l0 : Nat) (l1 : Nat) (l2 : Nat) (l3 : Nat) (l4 : Int32) : xM Int32 :=
  lI l0 (l4 + 1) fun v1 =>
  xb (f_law_count l1 v1 l3) fun v2 =>
  lI l0 (l4 + 1) fun v3 =>
  xv l2 9 <| xb (f_Mdl_count l2 v3) fun v4 =>
  xv l2 9 <| xb (f_Mdl_thrown l2) fun v5 =>
  if v5 = v2 then
    if v2 = 0 then
      lJ l3 0 fun v6 =>
      if (lg_cmp v6 v4.toInt64) = 0 then
        f_law_law_b1618 k43 l0 l1 l2 l3 l4
      else
        if (0 : Int32) = 0 ∨ (0 : Int32) = 1 then xr 0 else xst
    else
      f_law_law_b1618 k43 l0 l1 l2 l3 l4
  else
    if (0 : Int32) = 0 ∨ (0 : Int32) = 1 then xr 0 else xst
def f_law_law_b1562 (k43 : Nat → Nat → Nat → Nat → Int32 → xM Int32) (l0 : Nat) (l1 : Nat) (l2 : Nat) (l3 : Nat) (l4 : Int32) : xM Int32 :=
  f_law_law_b1621 k43 l0 l1 l2 l3 l4
def f_law_law_b1465 (k43 : Nat → Nat → Nat → Nat → Int32 → xM Int32) (l0 : Nat) (l1 : Nat) (l2 : Nat) (l3 : Nat) (l4 : Int32) : xM Int32 :=
  lI l0 (l4 + 1) fun v1 =>
  lI l0 (l4 + 2) fun v2 =>
  lI l0 (l4 + 3) fun v3 =>
  xb (f_law_told l1 ((v1.toInt64 <<< ((32 : Int32).toInt64 &&& 63)) ||| (v2.toInt64 &&& 4294967295)) v3 l3) fun v4 =>
  lI l0 (l4 + 1) fun v5 =>
  lI l0 (l4 + 2) fun v6 =>
  lI l0 (l4 + 3) fun v7 =>
  xv l2 9 <| xb (f_Mdl_told l2 ((v5.toInt64 <<< ((32 : Int32).toInt64 &&& 63)) ||| (v6.toInt64 &&& 4294967295)) v7) fun v8 =>
  xv l2 9 <| xb (f_Mdl_thrown l2) fun v9 =>
  if v9 = v4 then
    if v4 = 0 then
      lJ l3 0 fun v10 =>
      if (lg_cmp v10 v8.toInt64) = 0 then
        f_law_law_b1562 k43 l0 l1 l2 l3 l4
      else
        if (0 : Int32) = 0 ∨ (0 : Int32) = 1 then xr 0 else xst
    else
      f_law_law_b1562 k43 l0 l1 l2 l3 l4
  else
    if (0 : Int32) = 0 ∨ (0 : Int32) = 1 then xr 0 else xst
def f_law_law_b1462 (k43 : Nat → Nat → Nat → Nat → Int32 → xM Int32) (l0 : Nat) (l1 : Nat) (l2 : Nat) (l3 : Nat) (l4 : Int32) : xM Int32 :=
  f_law_law_b1621 k43 l0 l1 l2 l3 l4
def f_law_law_b1385 (k43 : Nat → Nat → Nat → Nat → Int32 → xM Int32) (l0 : Nat) (l1 : Nat) (l2 : Nat) (l3 : Nat) (l4 : Int32) : xM Int32 :=
  lI l0 (l4 + 1) fun v1 =>
  lI l0 (l4 + 2) fun v2 =>
  lI l0 (l4 + 3) fun v3 =>
  xb (f_law_session l1 v1 v2 v3 l3) fun v4 =>
  lI l0 (l4 + 1) fun v5 =>
  lI l0 (l4 + 2) fun v6 =>
  lI l0 (l4 + 3) fun v7 =>
  xv l2 9 <| xb (f_Mdl_session l2 v5 v6 v7) fun v8 =>
  xv l2 9 <| xb (f_Mdl_thrown l2) fun v9 =>
  if v9 = v4 then
    if v4 = 0 then
      lJ l3 0 fun v10 =>
      if (lg_cmp v10 v8.toInt64) = 0 then
        f_law_law_b1462 k43 l0 l1 l2 l3 l4
      else
        if (0 : Int32) = 0 ∨ (0 : Int32) = 1 then xr 0 else xst
    else
      f_law_law_b1462 k43 l0 l1 l2 l3 l4
  else
    if (0 : Int32) = 0 ∨ (0 : Int32) = 1 then xr 0 else xst
def f_law_law_b1382 (k43 : Nat → Nat → Nat → Nat → Int32 → xM Int32) (l0 : Nat) (l1 : Nat) (l2 : Nat) (l3 : Nat) (l4 : Int32) : xM Int32 :=
  f_law_law_b1621 k43 l0 l1 l2 l3 l4
def f_law_law_b1305 (k43 : Nat → Nat → Nat → Nat → Int32 → xM Int32) (l0 : Nat) (l1 : Nat) (l2 : Nat) (l3 : Nat) (l4 : Int32) : xM Int32 :=
  lI l0 (l4 + 1) fun v1 =>
  lI l0 (l4 + 2) fun v2 =>
  lI l0 (l4 + 3) fun v3 =>
  xb (f_law_logged l1 v1 v2 v3 l3) fun v4 =>
  lI l0 (l4 + 1) fun v5 =>
  lI l0 (l4 + 2) fun v6 =>
  lI l0 (l4 + 3) fun v7 =>
  xv l2 9 <| xb (f_Mdl_logged l2 v5 v6 v7) fun v8 =>
  xv l2 9 <| xb (f_Mdl_thrown l2) fun v9 =>
  if v9 = v4 then
    if v4 = 0 then
      lJ l3 0 fun v10 =>
      if (lg_cmp v10 v8.toInt64) = 0 then
        f_law_law_b1382 k43 l0 l1 l2 l3 l4
      else
        if (0 : Int32) = 0 ∨ (0 : Int32) = 1 then xr 0 else xst
    else
      f_law_law_b1382 k43 l0 l1 l2 l3 l4
  else
    if (0 : Int32) = 0 ∨ (0 : Int32) = 1 then xr 0 else xst
def f_law_law_b1302 (k43 : Nat → Nat → Nat → Nat → Int32 → xM Int32) (l0 : Nat) (l1 : Nat) (l2 : Nat) (l3 : Nat) (l4 : Int32) : xM Int32 :=
  f_law_law_b1621 k43 l0 l1 l2 l3 l4
def f_law_law_b1237 (k43 : Nat → Nat → Nat → Nat → Int32 → xM Int32) (l0 : Nat) (l1 : Nat) (l2 : Nat) (l3 : Nat) (l4 : Int32) : xM Int32 :=
  lI l0 (l4 + 1) fun v1 =>
  lI l0 (l4 + 2) fun v2 =>
  xb (f_law_log l1 v1 v2 l3) fun v3 =>
  lI l0 (l4 + 1) fun v4 =>
  lI l0 (l4 + 2) fun v5 =>
  xv l2 9 <| xb (f_Mdl_log l2 v4 v5) fun v6 =>
  xv l2 9 <| xb (f_Mdl_thrown l2) fun v7 =>
  if v7 = v3 then
    if v3 = 0 then
      lJ l3 0 fun v8 =>
      if (lg_cmp v8 v6.toInt64) = 0 then
        f_law_law_b1302 k43 l0 l1 l2 l3 l4
      else
        if (0 : Int32) = 0 ∨ (0 : Int32) = 1 then xr 0 else xst
    else
      f_law_law_b1302 k43 l0 l1 l2 l3 l4
  else
    if (0 : Int32) = 0 ∨ (0 : Int32) = 1 then xr 0 else xst
def f_law_law_b1234 (k43 : Nat → Nat → Nat → Nat → Int32 → xM Int32) (l0 : Nat) (l1 : Nat) (l2 : Nat) (l3 : Nat) (l4 : Int32) : xM Int32 :=
  f_law_law_b1621 k43 l0 l1 l2 l3 l4
def f_law_law_b1169 (k43 : Nat → Nat → Nat → Nat → Int32 → xM Int32) (l0 : Nat) (l1 : Nat) (l2 : Nat) (l3 : Nat) (l4 : Int32) : xM Int32 :=
  lI l0 (l4 + 1) fun v1 =>
  lI l0 (l4 + 2) fun v2 =>
  xb (f_law_kept l1 v1 v2 l3) fun v3 =>
  lI l0 (l4 + 1) fun v4 =>
  lI l0 (l4 + 2) fun v5 =>
  xv l2 9 <| xb (f_Mdl_kept l2 v4 v5) fun v6 =>
  xv l2 9 <| xb (f_Mdl_thrown l2) fun v7 =>
  if v7 = v3 then
    if v3 = 0 then
      lJ l3 0 fun v8 =>
      if (lg_cmp v8 v6.toInt64) = 0 then
        f_law_law_b1234 k43 l0 l1 l2 l3 l4
      else
        if (0 : Int32) = 0 ∨ (0 : Int32) = 1 then xr 0 else xst
    else
      f_law_law_b1234 k43 l0 l1 l2 l3 l4
  else
    if (0 : Int32) = 0 ∨ (0 : Int32) = 1 then xr 0 else xst
def f_law_law_b1166 (k43 : Nat → Nat → Nat → Nat → Int32 → xM Int32) (l0 : Nat) (l1 : Nat) (l2 : Nat) (l3 : Nat) (l4 : Int32) : xM Int32 :=
  f_law_law_b1621 k43 l0 l1 l2 l3 l4
def f_law_law_b1101 (k43 : Nat → Nat → Nat → Nat → Int32 → xM Int32) (l0 : Nat) (l1 : Nat) (l2 : Nat) (l3 : Nat) (l4 : Int32) : xM Int32 :=
  lI l0 (l4 + 1) fun v1 =>
  lI l0 (l4 + 2) fun v2 =>
  xb (f_law_at l1 v1 v2 l3) fun v3 =>
  lI l0 (l4 + 1) fun v4 =>
  lI l0 (l4 + 2) fun v5 =>
  xv l2 9 <| xb (f_Mdl_at l2 v4 v5) fun v6 =>
  xv l2 9 <| xb (f_Mdl_thrown l2) fun v7 =>
  if v7 = v3 then
    if v3 = 0 then
      lJ l3 0 fun v8 =>
      if (lg_cmp v8 v6.toInt64) = 0 then
        f_law_law_b1166 k43 l0 l1 l2 l3 l4
      else
        if (0 : Int32) = 0 ∨ (0 : Int32) = 1 then xr 0 else xst
    else
      f_law_law_b1166 k43 l0 l1 l2 l3 l4
  else
    if (0 : Int32) = 0 ∨ (0 : Int32) = 1 then xr 0 else xst
def f_law_law_b1098 (k43 : Nat → Nat → Nat → Nat → Int32 → xM Int32) (l0 : Nat) (l1 : Nat) (l2 : Nat) (l3 : Nat) (l4 : Int32) : xM Int32 :=
  f_law_law_b1621 k43 l0 l1 l2 l3 l4
def f_law_law_b1022 (k43 : Nat → Nat → Nat → Nat → Int32 → xM Int32) (l0 : Nat) (l1 : Nat) (l2 : Nat) (l3 : Nat) (l4 : Int32) : xM Int32 :=
  lI l0 (l4 + 1) fun v1 =>
  lI l0 (l4 + 2) fun v2 =>
  lI l0 (l4 + 3) fun v3 =>
  xb (f_law_value l1 v1 v2 v3 l3) fun v4 =>
  lI l0 (l4 + 1) fun v5 =>
  lI l0 (l4 + 2) fun v6 =>
  lI l0 (l4 + 3) fun v7 =>
  xv l2 9 <| xb (f_Mdl_value l2 v5 v6 v7) fun v8 =>
  xv l2 9 <| xb (f_Mdl_thrown l2) fun v9 =>
  if v9 = v4 then
    if v4 = 0 then
      lJ l3 0 fun v10 =>
      if (lg_cmp v10 v8) = 0 then
        f_law_law_b1098 k43 l0 l1 l2 l3 l4
      else
        if (0 : Int32) = 0 ∨ (0 : Int32) = 1 then xr 0 else xst
    else
      f_law_law_b1098 k43 l0 l1 l2 l3 l4
  else
    if (0 : Int32) = 0 ∨ (0 : Int32) = 1 then xr 0 else xst
def f_law_law_b1019 (k43 : Nat → Nat → Nat → Nat → Int32 → xM Int32) (l0 : Nat) (l1 : Nat) (l2 : Nat) (l3 : Nat) (l4 : Int32) : xM Int32 :=
  f_law_law_b1621 k43 l0 l1 l2 l3 l4
def f_law_law_b955 (k43 : Nat → Nat → Nat → Nat → Int32 → xM Int32) (l0 : Nat) (l1 : Nat) (l2 : Nat) (l3 : Nat) (l4 : Int32) : xM Int32 :=
  lI l0 (l4 + 1) fun v1 =>
  lI l0 (l4 + 2) fun v2 =>
  xb (f_law_read l1 v1 v2 l3) fun v3 =>
  lI l0 (l4 + 1) fun v4 =>
  lI l0 (l4 + 2) fun v5 =>
  xv l2 9 <| xb (f_Mdl_read l2 v4 v5) fun v6 =>
  xv l2 9 <| xb (f_Mdl_thrown l2) fun v7 =>
  if v7 = v3 then
    if v3 = 0 then
      lJ l3 0 fun v8 =>
      if (lg_cmp v8 v6) = 0 then
        f_law_law_b1019 k43 l0 l1 l2 l3 l4
      else
        if (0 : Int32) = 0 ∨ (0 : Int32) = 1 then xr 0 else xst
    else
      f_law_law_b1019 k43 l0 l1 l2 l3 l4
  else
    if (0 : Int32) = 0 ∨ (0 : Int32) = 1 then xr 0 else xst
def f_law_law_b952 (k43 : Nat → Nat → Nat → Nat → Int32 → xM Int32) (l0 : Nat) (l1 : Nat) (l2 : Nat) (l3 : Nat) (l4 : Int32) : xM Int32 :=
  f_law_law_b1621 k43 l0 l1 l2 l3 l4
def f_law_law_b803 (k43 : Nat → Nat → Nat → Nat → Int32 → xM Int32) (l0 : Nat) (l1 : Nat) (l2 : Nat) (l3 : Nat) (l4 : Int32) : xM Int32 :=
  lI l0 (l4 + 1) fun v1 =>
  lI l0 (l4 + 2) fun v2 =>
  lI l0 (l4 + 3) fun v3 =>
  lI l0 (l4 + 4) fun v4 =>
  lI l0 (l4 + 5) fun v5 =>
  lI l0 (l4 + 6) fun v6 =>
  lI l0 (l4 + 7) fun v7 =>
  xb (f_law_ask l1 v1 ((v2.toInt64 <<< ((32 : Int32).toInt64 &&& 63)) ||| (v3.toInt64 &&& 4294967295)) v4 v5 v6 v7 l3) fun v8 =>
  lI l0 (l4 + 1) fun v9 =>
  lI l0 (l4 + 2) fun v10 =>
  lI l0 (l4 + 3) fun v11 =>
  lI l0 (l4 + 4) fun v12 =>
  lI l0 (l4 + 5) fun v13 =>
  lI l0 (l4 + 6) fun v14 =>
  lI l0 (l4 + 7) fun v15 =>
  xv l2 9 <| xb (f_Mdl_ask l2 v9 ((v10.toInt64 <<< ((32 : Int32).toInt64 &&& 63)) ||| (v11.toInt64 &&& 4294967295)) v12 v13 v14 v15) fun v16 =>
  xv l2 9 <| xb (f_Mdl_thrown l2) fun v17 =>
  if v17 = v8 then
    if v8 = 0 then
      lJ l3 0 fun v18 =>
      if (lg_cmp v18 v16.toInt64) = 0 then
        f_law_law_b952 k43 l0 l1 l2 l3 l4
      else
        if (0 : Int32) = 0 ∨ (0 : Int32) = 1 then xr 0 else xst
    else
      f_law_law_b952 k43 l0 l1 l2 l3 l4
  else
    if (0 : Int32) = 0 ∨ (0 : Int32) = 1 then xr 0 else xst
def f_law_law_b790 (k43 : Nat → Nat → Nat → Nat → Int32 → xM Int32) (l0 : Nat) (l1 : Nat) (l2 : Nat) (l3 : Nat) (l4 : Int32) : xM Int32 :=
  xv l1 0 <| xb (f_RS_trim l1) fun v1 =>
  xv l2 9 <| xb (f_Mdl_trim l2) fun v2 =>
  if v1 = v2 then
    f_law_law_b1621 k43 l0 l1 l2 l3 l4
  else
    if (0 : Int32) = 0 ∨ (0 : Int32) = 1 then xr 0 else xst
def f_law_law_b787 (k43 : Nat → Nat → Nat → Nat → Int32 → xM Int32) (l0 : Nat) (l1 : Nat) (l2 : Nat) (l3 : Nat) (l4 : Int32) : xM Int32 :=
  f_law_law_b1621 k43 l0 l1 l2 l3 l4
def f_law_law_b734 (k43 : Nat → Nat → Nat → Nat → Int32 → xM Int32) (l0 : Nat) (l1 : Nat) (l2 : Nat) (l3 : Nat) (l4 : Int32) : xM Int32 :=
  lI l0 (l4 + 1) fun v1 =>
  xb (f_law_crash l1 v1 l3) fun v2 =>
  lI l0 (l4 + 1) fun v3 =>
  xv l2 9 <| xb (f_Mdl_crash l2 v3) fun v4 =>
  xv l2 9 <| xb (f_Mdl_thrown l2) fun v5 =>
  if v5 = v2 then
    if v2 = 0 then
      lJ l3 0 fun v6 =>
      if (lg_cmp v6 v4.toInt64) = 0 then
        f_law_law_b787 k43 l0 l1 l2 l3 l4
      else
        if (0 : Int32) = 0 ∨ (0 : Int32) = 1 then xr 0 else xst
    else
      f_law_law_b787 k43 l0 l1 l2 l3 l4
  else
    if (0 : Int32) = 0 ∨ (0 : Int32) = 1 then xr 0 else xst
def f_law_law_b731 (k43 : Nat → Nat → Nat → Nat → Int32 → xM Int32) (l0 : Nat) (l1 : Nat) (l2 : Nat) (l3 : Nat) (l4 : Int32) : xM Int32 :=
  f_law_law_b1621 k43 l0 l1 l2 l3 l4
def f_law_law_b678 (k43 : Nat → Nat → Nat → Nat → Int32 → xM Int32) (l0 : Nat) (l1 : Nat) (l2 : Nat) (l3 : Nat) (l4 : Int32) : xM Int32 :=
  lI l0 (l4 + 1) fun v1 =>
  xb (f_law_snapshot l1 v1 l3) fun v2 =>
  lI l0 (l4 + 1) fun v3 =>
  xv l2 9 <| xb (f_Mdl_snapshot l2 v3) fun v4 =>
  xv l2 9 <| xb (f_Mdl_thrown l2) fun v5 =>
  if v5 = v2 then
    if v2 = 0 then
      lJ l3 0 fun v6 =>
      if (lg_cmp v6 v4.toInt64) = 0 then
        f_law_law_b731 k43 l0 l1 l2 l3 l4
      else
        if (0 : Int32) = 0 ∨ (0 : Int32) = 1 then xr 0 else xst
    else
      f_law_law_b731 k43 l0 l1 l2 l3 l4
  else
    if (0 : Int32) = 0 ∨ (0 : Int32) = 1 then xr 0 else xst
def f_law_law_b675 (k43 : Nat → Nat → Nat → Nat → Int32 → xM Int32) (l0 : Nat) (l1 : Nat) (l2 : Nat) (l3 : Nat) (l4 : Int32) : xM Int32 :=
  f_law_law_b1621 k43 l0 l1 l2 l3 l4
def f_law_law_b669 (k43 : Nat → Nat → Nat → Nat → Int32 → xM Int32) (l0 : Nat) (l1 : Nat) (l2 : Nat) (l3 : Nat) (l4 : Int32) (t0 : Int64) (t1 : Int64) : xM Int32 :=
  if (lg_cmp t1 t0) = 0 then
    f_law_law_b675 k43 l0 l1 l2 l3 l4
  else
    if (0 : Int32) = 0 ∨ (0 : Int32) = 1 then xr 0 else xst
def f_law_law_b635 (k43 : Nat → Nat → Nat → Nat → Int32 → xM Int32) (l0 : Nat) (l1 : Nat) (l2 : Nat) (l3 : Nat) (l4 : Int32) (l5 : Int32) (t0 : Int32) (t1 : Int32) (t2 : Nat) : xM Int32 :=
  xv t2 9 <| xb (f_Mdl_up t2 t1 t0) fun v1 =>
  xv l2 9 <| xb (f_Mdl_thrown l2) fun v2 =>
  if v2 = l5 then
    if l5 = 0 then
      lJ l3 0 fun v3 =>
      if v1 = 0 then
        f_law_law_b669 k43 l0 l1 l2 l3 l4 0 v3
      else
        f_law_law_b669 k43 l0 l1 l2 l3 l4 1 v3
    else
      f_law_law_b675 k43 l0 l1 l2 l3 l4
  else
    if (0 : Int32) = 0 ∨ (0 : Int32) = 1 then xr 0 else xst
def f_law_law_b608 (k43 : Nat → Nat → Nat → Nat → Int32 → xM Int32) (l0 : Nat) (l1 : Nat) (l2 : Nat) (l3 : Nat) (l4 : Int32) (t0 : Int32) (t1 : Int32) (t2 : Nat) : xM Int32 :=
  xb (f_law_up t2 t1 t0 l3) fun v1 =>
  lI l0 (l4 + 1) fun v2 =>
  lI l0 (l4 + 2) fun v3 =>
  if v3 = 0 then
    f_law_law_b635 k43 l0 l1 l2 l3 l4 v1 0 v2 l2
  else
    f_law_law_b635 k43 l0 l1 l2 l3 l4 v1 1 v2 l2
def f_law_law_b587 (k43 : Nat → Nat → Nat → Nat → Int32 → xM Int32) (l0 : Nat) (l1 : Nat) (l2 : Nat) (l3 : Nat) (l4 : Int32) : xM Int32 :=
  lI l0 (l4 + 1) fun v1 =>
  lI l0 (l4 + 2) fun v2 =>
  if v2 = 0 then
    f_law_law_b608 k43 l0 l1 l2 l3 l4 0 v1 l1
  else
    f_law_law_b608 k43 l0 l1 l2 l3 l4 1 v1 l1
def f_law_law_b584 (k43 : Nat → Nat → Nat → Nat → Int32 → xM Int32) (l0 : Nat) (l1 : Nat) (l2 : Nat) (l3 : Nat) (l4 : Int32) : xM Int32 :=
  f_law_law_b1621 k43 l0 l1 l2 l3 l4
def f_law_law_b531 (k43 : Nat → Nat → Nat → Nat → Int32 → xM Int32) (l0 : Nat) (l1 : Nat) (l2 : Nat) (l3 : Nat) (l4 : Int32) : xM Int32 :=
  lI l0 (l4 + 1) fun v1 =>
  xb (f_law_ticks l1 v1 l3) fun v2 =>
  lI l0 (l4 + 1) fun v3 =>
  xv l2 9 <| xb (f_Mdl_ticks l2 v3) fun v4 =>
  xv l2 9 <| xb (f_Mdl_thrown l2) fun v5 =>
  if v5 = v2 then
    if v2 = 0 then
      lJ l3 0 fun v6 =>
      if (lg_cmp v6 v4.toInt64) = 0 then
        f_law_law_b584 k43 l0 l1 l2 l3 l4
      else
        if (0 : Int32) = 0 ∨ (0 : Int32) = 1 then xr 0 else xst
    else
      f_law_law_b584 k43 l0 l1 l2 l3 l4
  else
    if (0 : Int32) = 0 ∨ (0 : Int32) = 1 then xr 0 else xst
def f_law_law_b528 (k43 : Nat → Nat → Nat → Nat → Int32 → xM Int32) (l0 : Nat) (l1 : Nat) (l2 : Nat) (l3 : Nat) (l4 : Int32) : xM Int32 :=
  f_law_law_b1621 k43 l0 l1 l2 l3 l4
def f_law_law_b463 (k43 : Nat → Nat → Nat → Nat → Int32 → xM Int32) (l0 : Nat) (l1 : Nat) (l2 : Nat) (l3 : Nat) (l4 : Int32) : xM Int32 :=
  lI l0 (l4 + 1) fun v1 =>
  lI l0 (l4 + 2) fun v2 =>
  xb (f_law_speed l1 v1 v2 l3) fun v3 =>
  lI l0 (l4 + 1) fun v4 =>
  lI l0 (l4 + 2) fun v5 =>
  xv l2 9 <| xb (f_Mdl_speed l2 v4 v5) fun v6 =>
  xv l2 9 <| xb (f_Mdl_thrown l2) fun v7 =>
  if v7 = v3 then
    if v3 = 0 then
      lJ l3 0 fun v8 =>
      if (lg_cmp v8 v6.toInt64) = 0 then
        f_law_law_b528 k43 l0 l1 l2 l3 l4
      else
        if (0 : Int32) = 0 ∨ (0 : Int32) = 1 then xr 0 else xst
    else
      f_law_law_b528 k43 l0 l1 l2 l3 l4
  else
    if (0 : Int32) = 0 ∨ (0 : Int32) = 1 then xr 0 else xst
def f_law_law_b460 (k43 : Nat → Nat → Nat → Nat → Int32 → xM Int32) (l0 : Nat) (l1 : Nat) (l2 : Nat) (l3 : Nat) (l4 : Int32) : xM Int32 :=
  f_law_law_b1621 k43 l0 l1 l2 l3 l4
def f_law_law_b395 (k43 : Nat → Nat → Nat → Nat → Int32 → xM Int32) (l0 : Nat) (l1 : Nat) (l2 : Nat) (l3 : Nat) (l4 : Int32) : xM Int32 :=
  lI l0 (l4 + 1) fun v1 =>
  lI l0 (l4 + 2) fun v2 =>
  xb (f_law_step l1 v1 v2 l3) fun v3 =>
  lI l0 (l4 + 1) fun v4 =>
  lI l0 (l4 + 2) fun v5 =>
  xv l2 9 <| xb (f_Mdl_step l2 v4 v5) fun v6 =>
  xv l2 9 <| xb (f_Mdl_thrown l2) fun v7 =>
  if v7 = v3 then
    if v3 = 0 then
      lJ l3 0 fun v8 =>
      if (lg_cmp v8 v6.toInt64) = 0 then
        f_law_law_b460 k43 l0 l1 l2 l3 l4
      else
        if (0 : Int32) = 0 ∨ (0 : Int32) = 1 then xr 0 else xst
    else
      f_law_law_b460 k43 l0 l1 l2 l3 l4
  else
    if (0 : Int32) = 0 ∨ (0 : Int32) = 1 then xr 0 else xst
def f_law_law_b392 (k43 : Nat → Nat → Nat → Nat → Int32 → xM Int32) (l0 : Nat) (l1 : Nat) (l2 : Nat) (l3 : Nat) (l4 : Int32) : xM Int32 :=
  f_law_law_b1621 k43 l0 l1 l2 l3 l4
def f_law_law_b292 (k43 : Nat → Nat → Nat → Nat → Int32 → xM Int32) (l0 : Nat) (l1 : Nat) (l2 : Nat) (l3 : Nat) (l4 : Int32) : xM Int32 :=
  lI l0 (l4 + 1) fun v1 =>
  lI l0 (l4 + 2) fun v2 =>
  lI l0 (l4 + 3) fun v3 =>
  lI l0 (l4 + 4) fun v4 =>
  lI l0 (l4 + 5) fun v5 =>
  xb (f_law_command l1 v1 v2 v3 v4 v5 l3) fun v6 =>
  lI l0 (l4 + 1) fun v7 =>
  lI l0 (l4 + 2) fun v8 =>
  lI l0 (l4 + 3) fun v9 =>
  lI l0 (l4 + 4) fun v10 =>
  lI l0 (l4 + 5) fun v11 =>
  xv l2 9 <| xb (f_Mdl_command l2 v7 v8 v9 v10 v11) fun v12 =>
  xv l2 9 <| xb (f_Mdl_thrown l2) fun v13 =>
  if v13 = v6 then
    if v6 = 0 then
      lJ l3 0 fun v14 =>
      if (lg_cmp v14 v12) = 0 then
        f_law_law_b392 k43 l0 l1 l2 l3 l4
      else
        if (0 : Int32) = 0 ∨ (0 : Int32) = 1 then xr 0 else xst
    else
      f_law_law_b392 k43 l0 l1 l2 l3 l4
  else
    if (0 : Int32) = 0 ∨ (0 : Int32) = 1 then xr 0 else xst
def f_law_law_b289 (k43 : Nat → Nat → Nat → Nat → Int32 → xM Int32) (l0 : Nat) (l1 : Nat) (l2 : Nat) (l3 : Nat) (l4 : Int32) : xM Int32 :=
  f_law_law_b1621 k43 l0 l1 l2 l3 l4
def f_law_law_b224 (k43 : Nat → Nat → Nat → Nat → Int32 → xM Int32) (l0 : Nat) (l1 : Nat) (l2 : Nat) (l3 : Nat) (l4 : Int32) : xM Int32 :=
  lI l0 (l4 + 1) fun v1 =>
  lI l0 (l4 + 2) fun v2 =>
  xb (f_law_home l1 v1 v2 l3) fun v3 =>
  lI l0 (l4 + 1) fun v4 =>
  lI l0 (l4 + 2) fun v5 =>
  xv l2 9 <| xb (f_Mdl_home l2 v4 v5) fun v6 =>
  xv l2 9 <| xb (f_Mdl_thrown l2) fun v7 =>
  if v7 = v3 then
    if v3 = 0 then
      lJ l3 0 fun v8 =>
      if (lg_cmp v8 v6.toInt64) = 0 then
        f_law_law_b289 k43 l0 l1 l2 l3 l4
      else
        if (0 : Int32) = 0 ∨ (0 : Int32) = 1 then xr 0 else xst
    else
      f_law_law_b289 k43 l0 l1 l2 l3 l4
  else
    if (0 : Int32) = 0 ∨ (0 : Int32) = 1 then xr 0 else xst
def f_law_law_b221 (k43 : Nat → Nat → Nat → Nat → Int32 → xM Int32) (l0 : Nat) (l1 : Nat) (l2 : Nat) (l3 : Nat) (l4 : Int32) : xM Int32 :=
  f_law_law_b1621 k43 l0 l1 l2 l3 l4
def f_law_law_b156 (k43 : Nat → Nat → Nat → Nat → Int32 → xM Int32) (l0 : Nat) (l1 : Nat) (l2 : Nat) (l3 : Nat) (l4 : Int32) : xM Int32 :=
  lI l0 (l4 + 1) fun v1 =>
  lI l0 (l4 + 2) fun v2 =>
  xb (f_law_mode l1 v1 v2 l3) fun v3 =>
  lI l0 (l4 + 1) fun v4 =>
  lI l0 (l4 + 2) fun v5 =>
  xv l2 9 <| xb (f_Mdl_mode l2 v4 v5) fun v6 =>
  xv l2 9 <| xb (f_Mdl_thrown l2) fun v7 =>
  if v7 = v3 then
    if v3 = 0 then
      lJ l3 0 fun v8 =>
      if (lg_cmp v8 v6.toInt64) = 0 then
        f_law_law_b221 k43 l0 l1 l2 l3 l4
      else
        if (0 : Int32) = 0 ∨ (0 : Int32) = 1 then xr 0 else xst
    else
      f_law_law_b221 k43 l0 l1 l2 l3 l4
  else
    if (0 : Int32) = 0 ∨ (0 : Int32) = 1 then xr 0 else xst
def f_law_law_b43 (k43 : Nat → Nat → Nat → Nat → Int32 → xM Int32) (l0 : Nat) (l1 : Nat) (l2 : Nat) (l3 : Nat) (l4 : Int32) : xM Int32 :=
  aL l0 fun v1 =>
  if (v1 - 8) < l4 then
    if (1 : Int32) = 0 ∨ (1 : Int32) = 1 then xr 1 else xst
  else
    lI l0 l4 fun v2 =>
    if (v2 &&& 31) = 0 then
      f_law_law_b156 k43 l0 l1 l2 l3 l4
    else
    if (v2 &&& 31) = 1 then
      f_law_law_b224 k43 l0 l1 l2 l3 l4
    else
    if (v2 &&& 31) = 2 then
      f_law_law_b292 k43 l0 l1 l2 l3 l4
    else
    if (v2 &&& 31) = 3 then
      f_law_law_b395 k43 l0 l1 l2 l3 l4
    else
    if (v2 &&& 31) = 4 then
      f_law_law_b463 k43 l0 l1 l2 l3 l4
    else
    if (v2 &&& 31) = 5 then
      f_law_law_b531 k43 l0 l1 l2 l3 l4
    else
    if (v2 &&& 31) = 6 then
      f_law_law_b587 k43 l0 l1 l2 l3 l4
    else
    if (v2 &&& 31) = 7 then
      f_law_law_b678 k43 l0 l1 l2 l3 l4
    else
    if (v2 &&& 31) = 8 then
      f_law_law_b734 k43 l0 l1 l2 l3 l4
    else
    if (v2 &&& 31) = 9 then
      f_law_law_b790 k43 l0 l1 l2 l3 l4
    else
    if (v2 &&& 31) = 10 then
      f_law_law_b803 k43 l0 l1 l2 l3 l4
    else
    if (v2 &&& 31) = 11 then
      f_law_law_b955 k43 l0 l1 l2 l3 l4
    else
    if (v2 &&& 31) = 12 then
      f_law_law_b1022 k43 l0 l1 l2 l3 l4
    else
    if (v2 &&& 31) = 13 then
      f_law_law_b1101 k43 l0 l1 l2 l3 l4
    else
    if (v2 &&& 31) = 14 then
      f_law_law_b1169 k43 l0 l1 l2 l3 l4
    else
    if (v2 &&& 31) = 15 then
      f_law_law_b1237 k43 l0 l1 l2 l3 l4
    else
    if (v2 &&& 31) = 16 then
      f_law_law_b1305 k43 l0 l1 l2 l3 l4
    else
    if (v2 &&& 31) = 17 then
      f_law_law_b1385 k43 l0 l1 l2 l3 l4
    else
    if (v2 &&& 31) = 18 then
      f_law_law_b1465 k43 l0 l1 l2 l3 l4
    else
    if (v2 &&& 31) = 19 then
      f_law_law_b1565 k43 l0 l1 l2 l3 l4
    else
      f_law_law_b1621 k43 l0 l1 l2 l3 l4
def f_law_law_h43  : Nat → Nat → Nat → Nat → Nat → Int32 → xM Int32
  | 0, _, _, _, _, _ => xst
  | n + 1, l0, l1, l2, l3, l4 => f_law_law_b43 (f_law_law_h43 n) l0 l1 l2 l3 l4
def f_law_law  (l0 : Nat) : xM Int32 :=
  nE 11 (.inr (0, z_RS)) fun a1 =>
  xb (f_law_cell l0 0) fun v2 =>
  xb (f_law_cell l0 1) fun v3 =>
  xb (f_RS_init a1 v2 v3) fun v4 =>
  nE 39 (.inr (9, z_Mdl)) fun a5 =>
  xb (f_law_cell l0 0) fun v6 =>
  xb (f_law_cell l0 1) fun v7 =>
  xb (f_Mdl_init a5 v6 v7) fun v8 =>
  nAJ 1 fun a9 =>
  f_law_law_h43 1000 l0 a1 a5 a9 2
