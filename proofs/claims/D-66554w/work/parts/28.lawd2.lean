theorem d_law_law_544 : decode code 544 = .ok (.aload_n 2, 1) := by decide +kernel
theorem d_law_law_545 : decode code 545 = .ok (.aload_n 0, 1) := by decide +kernel
theorem d_law_law_546 : decode code 546 = .ok (.iload 4, 2) := by decide +kernel
theorem d_law_law_548 : decode code 548 = .ok (.iconst 1, 1) := by decide +kernel
theorem d_law_law_549 : decode code 549 = .ok (.iadd, 1) := by decide +kernel
theorem d_law_law_550 : decode code 550 = .ok (.iaload, 1) := by decide +kernel
theorem d_law_law_551 : decode code 551 = .ok (.invokevirtual 117, 3) := by decide +kernel
theorem d_law_law_554 : decode code 554 = .ok (.istore 6, 2) := by decide +kernel
theorem d_law_law_556 : decode code 556 = .ok (.aload_n 2, 1) := by decide +kernel
theorem d_law_law_557 : decode code 557 = .ok (.invokevirtual 97, 3) := by decide +kernel
theorem d_law_law_560 : decode code 560 = .ok (.iload 5, 2) := by decide +kernel
theorem d_law_law_562 : decode code 562 = .ok (.if_icmp .eq 5, 3) := by decide +kernel
theorem d_law_law_565 : decode code 565 = .ok (.iconst 0, 1) := by decide +kernel
theorem d_law_law_566 : decode code 566 = .ok (.ireturn, 1) := by decide +kernel
theorem d_law_law_567 : decode code 567 = .ok (.iload 5, 2) := by decide +kernel
theorem d_law_law_569 : decode code 569 = .ok (.ifCond .ne 15, 3) := by decide +kernel
theorem d_law_law_572 : decode code 572 = .ok (.aload_n 3, 1) := by decide +kernel
theorem d_law_law_573 : decode code 573 = .ok (.iconst 0, 1) := by decide +kernel
theorem d_law_law_574 : decode code 574 = .ok (.laload, 1) := by decide +kernel
theorem d_law_law_575 : decode code 575 = .ok (.iload 6, 2) := by decide +kernel
theorem d_law_law_577 : decode code 577 = .ok (.i2l, 1) := by decide +kernel
theorem d_law_law_578 : decode code 578 = .ok (.lcmp, 1) := by decide +kernel
theorem d_law_law_579 : decode code 579 = .ok (.ifCond .eq 5, 3) := by decide +kernel
theorem d_law_law_582 : decode code 582 = .ok (.iconst 0, 1) := by decide +kernel
theorem d_law_law_583 : decode code 583 = .ok (.ireturn, 1) := by decide +kernel
theorem d_law_law_584 : decode code 584 = .ok (.goto 1037, 3) := by decide +kernel
theorem d_law_law_587 : decode code 587 = .ok (.aload_n 1, 1) := by decide +kernel
theorem d_law_law_588 : decode code 588 = .ok (.aload_n 0, 1) := by decide +kernel
theorem d_law_law_589 : decode code 589 = .ok (.iload 4, 2) := by decide +kernel
theorem d_law_law_591 : decode code 591 = .ok (.iconst 1, 1) := by decide +kernel
theorem d_law_law_592 : decode code 592 = .ok (.iadd, 1) := by decide +kernel
theorem d_law_law_593 : decode code 593 = .ok (.iaload, 1) := by decide +kernel
theorem d_law_law_594 : decode code 594 = .ok (.aload_n 0, 1) := by decide +kernel
theorem d_law_law_595 : decode code 595 = .ok (.iload 4, 2) := by decide +kernel
theorem d_law_law_597 : decode code 597 = .ok (.iconst 2, 1) := by decide +kernel
theorem d_law_law_598 : decode code 598 = .ok (.iadd, 1) := by decide +kernel
theorem d_law_law_599 : decode code 599 = .ok (.iaload, 1) := by decide +kernel
theorem d_law_law_600 : decode code 600 = .ok (.ifCond .eq 7, 3) := by decide +kernel
theorem d_law_law_603 : decode code 603 = .ok (.iconst 1, 1) := by decide +kernel
theorem d_law_law_604 : decode code 604 = .ok (.goto 4, 3) := by decide +kernel
theorem d_law_law_607 : decode code 607 = .ok (.iconst 0, 1) := by decide +kernel
theorem d_law_law_608 : decode code 608 = .ok (.aload_n 3, 1) := by decide +kernel
theorem d_law_law_609 : decode code 609 = .ok (.invokestatic 118, 3) := by decide +kernel
theorem d_law_law_612 : decode code 612 = .ok (.istore 5, 2) := by decide +kernel
theorem d_law_law_614 : decode code 614 = .ok (.aload_n 2, 1) := by decide +kernel
theorem d_law_law_615 : decode code 615 = .ok (.aload_n 0, 1) := by decide +kernel
theorem d_law_law_616 : decode code 616 = .ok (.iload 4, 2) := by decide +kernel
theorem d_law_law_618 : decode code 618 = .ok (.iconst 1, 1) := by decide +kernel
theorem d_law_law_619 : decode code 619 = .ok (.iadd, 1) := by decide +kernel
theorem d_law_law_620 : decode code 620 = .ok (.iaload, 1) := by decide +kernel
theorem d_law_law_621 : decode code 621 = .ok (.aload_n 0, 1) := by decide +kernel
theorem d_law_law_622 : decode code 622 = .ok (.iload 4, 2) := by decide +kernel
theorem d_law_law_624 : decode code 624 = .ok (.iconst 2, 1) := by decide +kernel
theorem d_law_law_625 : decode code 625 = .ok (.iadd, 1) := by decide +kernel
theorem d_law_law_626 : decode code 626 = .ok (.iaload, 1) := by decide +kernel
theorem d_law_law_627 : decode code 627 = .ok (.ifCond .eq 7, 3) := by decide +kernel
theorem d_law_law_630 : decode code 630 = .ok (.iconst 1, 1) := by decide +kernel
theorem d_law_law_631 : decode code 631 = .ok (.goto 4, 3) := by decide +kernel
theorem d_law_law_634 : decode code 634 = .ok (.iconst 0, 1) := by decide +kernel
theorem d_law_law_635 : decode code 635 = .ok (.invokevirtual 121, 3) := by decide +kernel
theorem d_law_law_638 : decode code 638 = .ok (.istore 6, 2) := by decide +kernel
theorem d_law_law_640 : decode code 640 = .ok (.aload_n 2, 1) := by decide +kernel
theorem d_law_law_641 : decode code 641 = .ok (.invokevirtual 97, 3) := by decide +kernel
theorem d_law_law_644 : decode code 644 = .ok (.iload 5, 2) := by decide +kernel
theorem d_law_law_646 : decode code 646 = .ok (.if_icmp .eq 5, 3) := by decide +kernel
theorem d_law_law_649 : decode code 649 = .ok (.iconst 0, 1) := by decide +kernel
theorem d_law_law_650 : decode code 650 = .ok (.ireturn, 1) := by decide +kernel
theorem d_law_law_651 : decode code 651 = .ok (.iload 5, 2) := by decide +kernel
theorem d_law_law_653 : decode code 653 = .ok (.ifCond .ne 22, 3) := by decide +kernel
theorem d_law_law_656 : decode code 656 = .ok (.aload_n 3, 1) := by decide +kernel
theorem d_law_law_657 : decode code 657 = .ok (.iconst 0, 1) := by decide +kernel
theorem d_law_law_658 : decode code 658 = .ok (.laload, 1) := by decide +kernel
theorem d_law_law_659 : decode code 659 = .ok (.iload 6, 2) := by decide +kernel
theorem d_law_law_661 : decode code 661 = .ok (.ifCond .eq 7, 3) := by decide +kernel
theorem d_law_law_664 : decode code 664 = .ok (.lconst 1, 1) := by decide +kernel
theorem d_law_law_665 : decode code 665 = .ok (.goto 4, 3) := by decide +kernel
theorem d_law_law_668 : decode code 668 = .ok (.lconst 0, 1) := by decide +kernel
theorem d_law_law_669 : decode code 669 = .ok (.lcmp, 1) := by decide +kernel
theorem d_law_law_670 : decode code 670 = .ok (.ifCond .eq 5, 3) := by decide +kernel
theorem d_law_law_673 : decode code 673 = .ok (.iconst 0, 1) := by decide +kernel
theorem d_law_law_674 : decode code 674 = .ok (.ireturn, 1) := by decide +kernel
theorem d_law_law_675 : decode code 675 = .ok (.goto 946, 3) := by decide +kernel
theorem d_law_law_678 : decode code 678 = .ok (.aload_n 1, 1) := by decide +kernel
theorem d_law_law_679 : decode code 679 = .ok (.aload_n 0, 1) := by decide +kernel
theorem d_law_law_680 : decode code 680 = .ok (.iload 4, 2) := by decide +kernel
theorem d_law_law_682 : decode code 682 = .ok (.iconst 1, 1) := by decide +kernel
theorem d_law_law_683 : decode code 683 = .ok (.iadd, 1) := by decide +kernel
theorem d_law_law_684 : decode code 684 = .ok (.iaload, 1) := by decide +kernel
theorem d_law_law_685 : decode code 685 = .ok (.aload_n 3, 1) := by decide +kernel
theorem d_law_law_686 : decode code 686 = .ok (.invokestatic 122, 3) := by decide +kernel
theorem d_law_law_689 : decode code 689 = .ok (.istore 5, 2) := by decide +kernel
theorem d_law_law_691 : decode code 691 = .ok (.aload_n 2, 1) := by decide +kernel
theorem d_law_law_692 : decode code 692 = .ok (.aload_n 0, 1) := by decide +kernel
theorem d_law_law_693 : decode code 693 = .ok (.iload 4, 2) := by decide +kernel
theorem d_law_law_695 : decode code 695 = .ok (.iconst 1, 1) := by decide +kernel
theorem d_law_law_696 : decode code 696 = .ok (.iadd, 1) := by decide +kernel
theorem d_law_law_697 : decode code 697 = .ok (.iaload, 1) := by decide +kernel
theorem d_law_law_698 : decode code 698 = .ok (.invokevirtual 124, 3) := by decide +kernel
theorem d_law_law_701 : decode code 701 = .ok (.istore 6, 2) := by decide +kernel
theorem d_law_law_703 : decode code 703 = .ok (.aload_n 2, 1) := by decide +kernel
theorem d_law_law_704 : decode code 704 = .ok (.invokevirtual 97, 3) := by decide +kernel
theorem d_law_law_707 : decode code 707 = .ok (.iload 5, 2) := by decide +kernel
theorem d_law_law_709 : decode code 709 = .ok (.if_icmp .eq 5, 3) := by decide +kernel
theorem d_law_law_712 : decode code 712 = .ok (.iconst 0, 1) := by decide +kernel
theorem d_law_law_713 : decode code 713 = .ok (.ireturn, 1) := by decide +kernel
theorem d_law_law_714 : decode code 714 = .ok (.iload 5, 2) := by decide +kernel
theorem d_law_law_716 : decode code 716 = .ok (.ifCond .ne 15, 3) := by decide +kernel
theorem d_law_law_719 : decode code 719 = .ok (.aload_n 3, 1) := by decide +kernel
theorem d_law_law_720 : decode code 720 = .ok (.iconst 0, 1) := by decide +kernel
theorem d_law_law_721 : decode code 721 = .ok (.laload, 1) := by decide +kernel
theorem d_law_law_722 : decode code 722 = .ok (.iload 6, 2) := by decide +kernel
theorem d_law_law_724 : decode code 724 = .ok (.i2l, 1) := by decide +kernel
theorem d_law_law_725 : decode code 725 = .ok (.lcmp, 1) := by decide +kernel
theorem d_law_law_726 : decode code 726 = .ok (.ifCond .eq 5, 3) := by decide +kernel
theorem d_law_law_729 : decode code 729 = .ok (.iconst 0, 1) := by decide +kernel
theorem d_law_law_730 : decode code 730 = .ok (.ireturn, 1) := by decide +kernel
theorem d_law_law_731 : decode code 731 = .ok (.goto 890, 3) := by decide +kernel
theorem d_law_law_734 : decode code 734 = .ok (.aload_n 1, 1) := by decide +kernel
theorem d_law_law_735 : decode code 735 = .ok (.aload_n 0, 1) := by decide +kernel
theorem d_law_law_736 : decode code 736 = .ok (.iload 4, 2) := by decide +kernel
theorem d_law_law_738 : decode code 738 = .ok (.iconst 1, 1) := by decide +kernel
theorem d_law_law_739 : decode code 739 = .ok (.iadd, 1) := by decide +kernel
theorem d_law_law_740 : decode code 740 = .ok (.iaload, 1) := by decide +kernel
theorem d_law_law_741 : decode code 741 = .ok (.aload_n 3, 1) := by decide +kernel
theorem d_law_law_742 : decode code 742 = .ok (.invokestatic 125, 3) := by decide +kernel
theorem d_law_law_745 : decode code 745 = .ok (.istore 5, 2) := by decide +kernel
theorem d_law_law_747 : decode code 747 = .ok (.aload_n 2, 1) := by decide +kernel
theorem d_law_law_748 : decode code 748 = .ok (.aload_n 0, 1) := by decide +kernel
theorem d_law_law_749 : decode code 749 = .ok (.iload 4, 2) := by decide +kernel
theorem d_law_law_751 : decode code 751 = .ok (.iconst 1, 1) := by decide +kernel
theorem d_law_law_752 : decode code 752 = .ok (.iadd, 1) := by decide +kernel
theorem d_law_law_753 : decode code 753 = .ok (.iaload, 1) := by decide +kernel
theorem d_law_law_754 : decode code 754 = .ok (.invokevirtual 127, 3) := by decide +kernel
theorem d_law_law_757 : decode code 757 = .ok (.istore 6, 2) := by decide +kernel
theorem d_law_law_759 : decode code 759 = .ok (.aload_n 2, 1) := by decide +kernel
theorem d_law_law_760 : decode code 760 = .ok (.invokevirtual 97, 3) := by decide +kernel
theorem d_law_law_763 : decode code 763 = .ok (.iload 5, 2) := by decide +kernel
theorem d_law_law_765 : decode code 765 = .ok (.if_icmp .eq 5, 3) := by decide +kernel
theorem d_law_law_768 : decode code 768 = .ok (.iconst 0, 1) := by decide +kernel
theorem d_law_law_769 : decode code 769 = .ok (.ireturn, 1) := by decide +kernel
theorem d_law_law_770 : decode code 770 = .ok (.iload 5, 2) := by decide +kernel
theorem d_law_law_772 : decode code 772 = .ok (.ifCond .ne 15, 3) := by decide +kernel
theorem d_law_law_775 : decode code 775 = .ok (.aload_n 3, 1) := by decide +kernel
theorem d_law_law_776 : decode code 776 = .ok (.iconst 0, 1) := by decide +kernel
theorem d_law_law_777 : decode code 777 = .ok (.laload, 1) := by decide +kernel
theorem d_law_law_778 : decode code 778 = .ok (.iload 6, 2) := by decide +kernel
theorem d_law_law_780 : decode code 780 = .ok (.i2l, 1) := by decide +kernel
theorem d_law_law_781 : decode code 781 = .ok (.lcmp, 1) := by decide +kernel
theorem d_law_law_782 : decode code 782 = .ok (.ifCond .eq 5, 3) := by decide +kernel
theorem d_law_law_785 : decode code 785 = .ok (.iconst 0, 1) := by decide +kernel
